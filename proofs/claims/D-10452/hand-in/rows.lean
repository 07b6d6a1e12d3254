section
/-! ===== the heaps, and the moves kept in order ===== -/
def hg_H (a b c : Nat) (h : Nat → Int32) : Prop := h 0 = nI a ∧ h 1 = nI b ∧ h 2 = nI c ∧ a < 16 ∧ b < 16 ∧ c < 16
/-- the first n places of m hold t, in order; t's values are those of P -/
def hg_R (P : Nat → Prop) (n : Nat) (t : Nat → Nat) (m : Nat → Int32) : Prop :=
  (∀ j, j < n → m j = nI (t j)) ∧ (∀ j, j < n → t j < 1048576) ∧ (∀ i j, i < j → j < n → t i < t j) ∧ (∀ v, P v ↔ ∃ j, j < n ∧ t j = v)
def hg_S (P : Nat → Prop) (k : Nat) (f : Int32) (m : Nat → Int32) : Prop := ∃ n t, n ≤ k ∧ f = nI n ∧ hg_R P n t m
theorem hg_S_0 (m : Nat → Int32) : hg_S (fun _ => False) 0 0 m :=
  ⟨0, fun _ => 0, Nat.le_refl 0, rfl, fun j hj => absurd hj (by omega), fun j hj => absurd hj (by omega), fun i j _ hj => absurd hj (by omega), fun v => ⟨fun z => z.elim, fun ⟨j, hj, _⟩ => absurd hj (by omega)⟩⟩
theorem hg_S_cg {P Q : Nat → Prop} {k k' : Nat} {f : Int32} {m : Nat → Int32} (h : hg_S P k f m) (hk : k ≤ k') (e : ∀ v, P v ↔ Q v) : hg_S Q k' f m := by
  obtain ⟨n, t, hn, hf, h1, h2, h3, h4⟩ := h
  exact ⟨n, t, by omega, hf, h1, h2, h3, fun v => (e v).symm.trans (h4 v)⟩
theorem hg_incl {P Q : Nat → Prop} {n n' : Nat} {t t' : Nat → Nat} {m m' : Nat → Int32} (h : hg_R P n t m) (h' : hg_R Q n' t' m') (hPQ : ∀ v, P v → Q v) : ∀ i, i < n → ∃ j, i ≤ j ∧ j < n' ∧ t i = t' j := by
  obtain ⟨_, _, hs, hm⟩ := h
  obtain ⟨_, _, hs', hm'⟩ := h'
  have ex : ∀ i, i < n → ∃ j, j < n' ∧ t' j = t i := fun i hi => (hm' _).mp (hPQ _ ((hm _).mpr ⟨i, hi, rfl⟩))
  intro i
  induction i with
  | zero =>
    intro hi
    obtain ⟨j, hj, e⟩ := ex 0 hi
    exact ⟨j, Nat.zero_le j, hj, e.symm⟩
  | succ i ih =>
    intro hi
    obtain ⟨j, hj1, hj2, e⟩ := ih (by omega)
    obtain ⟨k, hk, ek⟩ := ex (i + 1) hi
    have lt := hs i (i + 1) (by omega) hi
    refine ⟨k, ?_, hk, ek.symm⟩
    rcases Nat.lt_trichotomy k j with z | z | z
    · have := hs' k j z hj2
      omega
    · subst z
      omega
    · omega
theorem hg_le {P Q : Nat → Prop} {n n' : Nat} {t t' : Nat → Nat} {m m' : Nat → Int32} (h : hg_R P n t m) (h' : hg_R Q n' t' m') (hPQ : ∀ v, P v → Q v) : n ≤ n' := by
  rcases Nat.eq_zero_or_pos n with z | z
  · omega
  · obtain ⟨j, h1, h2, _⟩ := hg_incl h h' hPQ (n - 1) (by omega)
    omega
theorem hg_same {P : Nat → Prop} {n n' : Nat} {t t' : Nat → Nat} {m m' : Nat → Int32} (h : hg_R P n t m) (h' : hg_R P n' t' m') : n = n' ∧ ∀ i, i < n → t i = t' i := by
  have e1 := hg_le h h' (fun _ z => z)
  have e2 := hg_le h' h (fun _ z => z)
  refine ⟨by omega, fun i hi => ?_⟩
  obtain ⟨j, a1, a2, a3⟩ := hg_incl h h' (fun _ z => z) i hi
  obtain ⟨k, b1, b2, b3⟩ := hg_incl h' h (fun _ z => z) j a2
  rcases Nat.lt_or_ge i k with z | z
  · have := h.2.2.1 i k z b2
    omega
  · have e : i = j := by omega
    subst e
    exact a3
theorem hg_ins {P : Nat → Prop} {n p x : Nat} {t : Nat → Nat} {m s : Nat → Int32} (h : hg_R P n t m) (hx : x < 1048576) (hp : p ≤ n) (hlo : ∀ j, j < p → t j < x) (hhi : ∀ j, p ≤ j → j < n → x < t j)
    (s1 : ∀ j, j < p → s j = m j) (s2 : s p = nI x) (s3 : ∀ j, p < j → j ≤ n → s j = m (j - 1)) : ∃ t', hg_R (fun v => P v ∨ v = x) (n + 1) t' s := by
  obtain ⟨h1, h2, h3, h4⟩ := h
  refine ⟨fun j => if j < p then t j else if j = p then x else t (j - 1), ?_⟩
  generalize ht : (fun j => if j < p then t j else if j = p then x else t (j - 1)) = t'
  have tl : ∀ j, j < p → t' j = t j := fun j hj => by rw [← ht]; exact if_pos hj
  have tp : t' p = x := by rw [← ht]; show (if p < p then t p else if p = p then x else t (p - 1)) = x; rw [if_neg (by omega), if_pos rfl]
  have th : ∀ j, p < j → t' j = t (j - 1) := fun j hj => by
    rw [← ht]; show (if j < p then t j else if j = p then x else t (j - 1)) = t (j - 1); rw [if_neg (by omega), if_neg (by omega)]
  refine ⟨fun j hj => ?_, fun j hj => ?_, fun i j hi hj => ?_, fun v => ⟨?_, ?_⟩⟩
  · rcases Nat.lt_trichotomy j p with z | z | z
    · rw [s1 j z, tl j z]
      exact h1 j (by omega)
    · rw [z, s2, tp]
    · rw [s3 j z (by omega), th j z]
      exact h1 (j - 1) (by omega)
  · rcases Nat.lt_trichotomy j p with z | z | z
    · rw [tl j z]
      exact h2 j (by omega)
    · rw [z, tp]
      exact hx
    · rw [th j z]
      exact h2 (j - 1) (by omega)
  · rcases Nat.lt_trichotomy j p with z | z | z
    · rw [tl j z, tl i (by omega)]
      exact h3 i j hi (by omega)
    · rw [z, tp, tl i (by omega)]
      exact hlo i (by omega)
    · rw [th j z]
      rcases Nat.lt_trichotomy i p with y | y | y
      · rw [tl i y]
        exact h3 i (j - 1) (by omega) (by omega)
      · rw [y, tp]
        exact hhi (j - 1) (by omega) (by omega)
      · rw [th i y]
        exact h3 (i - 1) (j - 1) (by omega) (by omega)
  · rintro (z | z)
    · obtain ⟨j, hj, e⟩ := (h4 v).mp z
      rcases Nat.lt_or_ge j p with y | y
      · exact ⟨j, by omega, by rw [tl j y, e]⟩
      · exact ⟨j + 1, by omega, by rw [th (j + 1) (by omega)]; exact e⟩
    · exact ⟨p, by omega, by rw [tp, z]⟩
  · rintro ⟨j, hj, e⟩
    rcases Nat.lt_trichotomy j p with z | z | z
    · rw [tl j z] at e
      exact Or.inl ((h4 v).mpr ⟨j, by omega, e⟩)
    · rw [z, tp] at e
      exact Or.inr e.symm
    · rw [th j z] at e
      exact Or.inl ((h4 v).mpr ⟨j - 1, by omega, e⟩)
/-! ===== keep ===== -/
theorem hg_59 {post : St1 → Prop} {h a2 : Nat → Int32} {x p n : Nat} (hn : n < 800)
    (H : ∀ s, (∀ j, j < p → s j = a2 j) → s p = nI x → (∀ j, p < j → j ≤ n → s j = a2 (j - 1)) → post (nI (n + 1), h, s)) :
    ∀ d s, p + d ≤ n → (∀ j, j < p + d → s j = a2 j) → (∀ j, p + d < j → j ≤ n → s j = a2 (j - 1)) → wX_keep_59 post (nI x) (nI p) (nI n) (d + 1) (nI (p + d)) h s := by
  intro d
  induction d with
  | zero =>
    intro s h2 h3 h4
    refine pk_le (p + 0) p (fun _ => ⟨pk_in p 800 (by omega), fun s' es f' ef => ?_⟩) (fun z => absurd z (by omega))
    rw [nI_clamp (n := p) (by omega)] at es
    rw [nI_1] at ef
    subst es ef
    exact H _ (fun j hj => by rw [pk_un (by omega)]; exact h3 j (by omega)) pk_us (fun j hj hj2 => by rw [pk_un (by omega)]; exact h4 j (by omega) hj2)
  | succ d ih =>
    intro s h2 h3 h4
    have e1 : nI (p + (d + 1)) - 1 = nI (p + d) := nI_pred (p + d)
    have e2 : nI (p + (d + 1)) + (-1) = nI (p + d) := pk_m1 (p + d)
    refine pk_le (p + (d + 1)) p (fun z => absurd z (by omega)) (fun _ => ?_)
    rw [e1]
    refine ⟨pk_in (p + d) 800 (by omega), pk_in (p + (d + 1)) 800 (by omega), fun s' es i' ei => ?_⟩
    rw [nI_clamp (n := p + (d + 1)) (by omega), nI_clamp (n := p + d) (by omega)] at es
    rw [e2] at ei
    subst es ei
    refine ih _ (by omega) (fun j hj => ?_) (fun j hj hj2 => ?_)
    · rw [pk_un (by omega)]
      exact h3 j (by omega)
    · by_cases e : j = p + (d + 1)
      · subst e
        rw [pk_us, show p + (d + 1) - 1 = p + d by omega]
        exact h3 (p + d) (by omega)
      · rw [pk_un e]
        exact h4 j (by omega) hj2
theorem hg_keep {post : St1 → Prop} {P : Nat → Prop} {k x : Nat} {f : Int32} {h m : Nat → Int32} (hS : hg_S P k f m) (hk : k < 800) (hx : x < 1048576)
    (H : ∀ f' m', hg_S (fun v => P v ∨ v = x) (k + 1) f' m' → post (f', h, m')) : wpX_keep post (f, h, m) (nI x) := by
  obtain ⟨n, t, hn, rfl, hR⟩ := hS
  have hR' := hR
  obtain ⟨h1, h2, h3, h4⟩ := hR'
  have k43 : ∀ p, p ≤ n → (∀ j, j < p → t j < x) → (∀ j, p ≤ j → j < n → x < t j) → wX_keep_43 post (nI x) (nI p) (nI n) h m := by
    intro p hp hlo hhi
    refine pk_eq n 800 (fun z => absurd z (by omega)) (fun _ => ⟨n - p + 1, ?_⟩)
    have key := hg_59 (post := post) (h := h) (a2 := m) (x := x) (p := p) (n := n) (by omega) (fun s s1 s2 s3 => by
      obtain ⟨t', ht'⟩ := hg_ins hR hx hp hlo hhi s1 s2 s3
      exact H _ _ ⟨n + 1, t', by omega, rfl, ht'⟩) (n - p) m (by omega) (fun j _ => rfl) (fun j hj hj2 => absurd hj (by omega))
    rw [show p + (n - p) = n by omega] at key
    exact key
  have k27 : ∀ p, p ≤ n → (∀ j, j < p → t j ≤ x) → (∀ j, p ≤ j → j < n → x < t j) → wX_keep_27 post (nI x) (nI p) (nI n) h m := by
    intro p hp hlo hhi
    refine pk_le p 0 (fun z => k43 p hp (fun j hj => absurd hj (by omega)) hhi) (fun z => ?_)
    obtain ⟨q, rfl⟩ : ∃ q, p = q + 1 := ⟨p - 1, by omega⟩
    rw [nI_pred]
    refine ⟨pk_in q 800 (by omega), ?_⟩
    rw [nI_clamp (n := q) (by omega), h1 q (by omega)]
    have b1 := h2 q (by omega)
    refine pk_eq (t q) x (fun e => ?_) (fun e => ?_)
    · refine H _ _ ⟨n, t, by omega, rfl, h1, h2, h3, fun v => ⟨?_, fun z => Or.inl ((h4 v).mpr z)⟩⟩
      rintro (y | y)
      · exact (h4 v).mp y
      · exact ⟨q, by omega, by omega⟩
    · refine k43 (q + 1) hp (fun j hj => ?_) hhi
      have a2 := hlo q (by omega)
      rcases Nat.lt_or_ge j q with z2 | z2
      · have a1 := h3 j q z2 (by omega)
        omega
      · have e2 : j = q := by omega
        subst e2
        omega
  have k5 : ∀ p, p ≤ n → (∀ j, p ≤ j → j < n → x < t j) → wX_keep_5 post (nI x) (nI n) h m (p + 1) (nI p) := by
    intro p
    induction p with
    | zero => exact fun hp hhi => pk_le 0 0 (fun _ => k27 0 hp (fun j hj => absurd hj (by omega)) hhi) (fun z => absurd z (by omega))
    | succ p ih =>
      intro hp hhi
      refine pk_le (p + 1) 0 (fun z => absurd z (by omega)) (fun _ => ?_)
      rw [nI_pred]
      refine ⟨pk_in p 800 (by omega), ?_⟩
      rw [nI_clamp (n := p) (by omega), h1 p (by omega)]
      have b1 := h2 p (by omega)
      refine pk_le (t p) x (fun e => k27 (p + 1) hp (fun j hj => ?_) hhi) (fun e => nm_r (pk_m1 p) (ih (by omega) (fun j hj hj2 => ?_)))
      · rcases Nat.lt_or_ge j p with z2 | z2
        · have a1 := h3 j p z2 (by omega)
          omega
        · have e2 : j = p := by omega
          subst e2
          exact e
      · by_cases e2 : j = p
        · subst e2
          exact e
        · exact hhi j (by omega) hj2
  exact ⟨n + 1, k5 n (Nat.le_refl n) (fun j hj hj2 => absurd hj (by omega))⟩
end
section
/-! ===== who wins, in naturals ===== -/
/-- the root, as the loop finds it -/
def hg_rt : Nat → Nat → Nat → Nat
  | 0, _, r => r
  | f + 1, n, r => if n < (r + 1) * (r + 1) then r else hg_rt f n (r + 1)
def hg_gd (d : Nat) : Nat := [0, 1, 3, 4, 6, 8, 9, 11, 12, 14, 16, 17, 19, 21, 22, 24, 25, 27, 29, 30, 32, 33, 35, 37, 38, 40, 42, 43, 45, 46, 48, 50].getD d 0
theorem hg_gd_rt : ∀ d, d < 32 → (d + hg_rt 80 (5 * d * d) 0) / 2 = hg_gd d ∧ hg_rt 80 (5 * d * d) 0 ≤ 80 := by decide +kernel
theorem hg_gd_le : ∀ d, d < 32 → hg_gd d ≤ 50 := by decide +kernel
/-- the greatest Fibonacci number that goes in, as the loop finds it -/
def hg_fi : Nat → Nat → Nat → Nat → Nat
  | 0, _, o, _ => o
  | f + 1, l, o, p => if l < p then o else hg_fi f l p (o + p)
def hg_lq : Nat → Nat → Nat → Nat
  | 0, _, p => p
  | f + 1, l, p => if l = 0 then p else hg_lq f (l - hg_fi 60 l 1 2) (hg_fi 60 l 1 2)
def hg_lp (n : Nat) : Nat := hg_lq 60 n 0
theorem hg_lp_le : ∀ n, n < 61 → hg_lp n ≤ 60 := by decide +kernel
def hg_w4 (a b : Nat) : Bool := if b ≤ a then decide (b ≠ hg_gd (a - b)) else decide (a ≠ hg_gd (b - a))
def hg_rr (l h : Nat) : Bool := decide (0 < l ∧ (l = h ∨ h * l + l * l < h * h))
def hg_w5 (a b : Nat) : Bool := if b ≤ a then hg_rr b a else hg_rr a b
def hg_won (g a b c : Nat) : Bool :=
  match g with
  | 0 => decide (a ^^^ b ^^^ c ≠ 0)
  | 1 => decide ((a < 2 ∧ b < 2 ∧ c < 2) ↔ a ^^^ b ^^^ c = 0)
  | 2 => decide (¬ (a = b ∧ b = c))
  | 3 => decide (a ≠ c)
  | 4 => hg_w4 a b
  | 5 => hg_w5 a b
  | _ => decide ((a ^^^ b ^^^ c) % 4 ≠ 0)
def hg_ww (n k : Nat) : Bool := decide (0 < n ∧ hg_lp n ≤ k)
def hg_sg (a b : Nat) : Nat := if a + 16 * b ≤ 60 then a + 16 * b else 60
def hg_wn (g a b c : Nat) : Bool := if g = 6 then hg_ww (hg_sg a b) c else hg_won g a b c
theorem hg_sg_le (a b : Nat) : hg_sg a b ≤ 60 := by unfold hg_sg; split <;> omega
/-! ===== who wins: the walks ===== -/
theorem hg_xor2 : ∀ a, a < 32 → ∀ b, b < 32 → nI a ^^^ nI b = nI (a ^^^ b) ∧ a ^^^ b < 32 := by decide +kernel
theorem hg_xor {a b c : Nat} (ha : a < 32) (hb : b < 32) (hc : c < 32) : nI a ^^^ nI b ^^^ nI c = nI (a ^^^ b ^^^ c) ∧ a ^^^ b ^^^ c < 32 := by
  obtain ⟨e1, l1⟩ := hg_xor2 a ha b hb
  rw [e1]
  exact hg_xor2 _ l1 c hc
theorem hg_and3 {n : Nat} (h : n < 32) : nI n &&& 3 = nI (n % 4) := pk_andN (by omega) 2 (by decide)
section
variable {post : Int32 → Prop} {f : Int32} {h m : Nat → Int32}
theorem hg_bad {g : Nat} (hg : g < 8) (H : post 0) : wpX_badGame post (f, h, m) (nI g) :=
  pk_lt g 0 (fun z => absurd z (by omega)) (fun _ => pk_le g 7 (fun _ => H) (fun z => absurd z (by omega)))
theorem hg_badH {i : Nat} (hi : i < 3) (H : post 0) : wpX_badHeap post (f, h, m) (nI i) :=
  pk_lt i 0 (fun z => absurd z (by omega)) (fun _ => pk_le i 2 (fun _ => H) (fun z => absurd z (by omega)))
theorem hg_has {i : Nat} (hi : i < 3) (H : post (h i)) : wpX_has post (f, h, m) (nI i) := by
  unfold wpX_has
  dsimp only
  exact hg_badH hi (br_t rfl ⟨pk_in i 3 hi, by rw [nI_clamp (n := i) (by omega)]; exact H⟩)
theorem hg_root2 {n : Nat} (hn : n < 5000) : ∀ k r, r + k ≤ 80 → n < (r + k + 1) * (r + k + 1) → post (nI (hg_rt k n r)) → wX_rootOf_2 post (nI n) f h m (k + 1) (nI r) := by
  intro k
  induction k with
  | zero =>
    intro r hr hx H
    have hm : (r + 1) * (r + 1) ≤ 81 * 81 := Nat.mul_le_mul (by omega) (by omega)
    exact pk_lt n ((r + 1) * (r + 1)) (fun _ => H) (fun z => absurd hx (Nat.not_lt.mpr z)) rfl (by rw [nI_1, pk_mul])
  | succ k ih =>
    intro r hr hx H
    have hm : (r + 1) * (r + 1) ≤ 81 * 81 := Nat.mul_le_mul (by omega) (by omega)
    refine pk_lt n ((r + 1) * (r + 1)) (fun z => ?_) (fun z => nm_r (nI_1 r) (ih (r + 1) (by omega) ?_ ?_)) rfl (by rw [nI_1, pk_mul])
    · rw [hg_rt, if_pos z] at H
      exact H
    · rw [show r + 1 + k + 1 = r + (k + 1) + 1 by omega]
      exact hx
    · rw [hg_rt, if_neg (by omega)] at H
      exact H
theorem hg_root {n : Nat} (hn : n < 5000) (H : post (nI (hg_rt 80 n 0))) : wpX_rootOf post (f, h, m) (nI n) :=
  ⟨81, hg_root2 hn 80 0 (by omega) (by omega) H⟩
theorem hg_25 {l d : Nat} (hl : l < 32) (hd : d < 32) (h0 : l = hg_gd d → post 0) (h1 : l ≠ hg_gd d → post 1) : wX_wonGolden_25 post (nI l) (nI d) f h m := by
  obtain ⟨e1, e2⟩ := hg_gd_rt d hd
  have e3 := hg_gd_le d hd
  have e4 : (5 : Int32) * nI d * nI d = nI (5 * d * d) := by
    show nI 5 * nI d * nI d = nI (5 * d * d)
    rw [pk_mul, pk_mul]
  have e5 : 5 * d * d ≤ 155 * 31 := Nat.mul_le_mul (by omega) (by omega)
  unfold wX_wonGolden_25
  rw [e4]
  refine hg_root (by omega) ⟨by decide, ?_⟩
  have e6 : (nI d + nI (hg_rt 80 (5 * d * d) 0)) / 2 = nI (hg_gd d) := by
    rw [nI_add, ← e1]
    exact pk_div (d := 2) (by omega) (by omega) (by omega)
  rw [e6]
  exact pk_eq l (hg_gd d) h0 h1
theorem hg_golden {a b : Nat} (ha : a < 32) (hb : b < 32) (h1 : hg_w4 a b = true → post 1) (h0 : hg_w4 a b = false → post 0) : wpX_wonGolden post (f, h, m) (nI a) (nI b) := by
  refine pk_le b a (fun z => ?_) (fun z => ?_)
  · refine pk_le b a (fun _ => ?_) (fun y => absurd y (by omega))
    rw [pk_sub z]
    refine hg_25 hb (by omega) (fun e => h0 ?_) (fun e => h1 ?_)
    · rw [hg_w4, if_pos z]
      exact decide_eq_false (fun t => t e)
    · rw [hg_w4, if_pos z]
      exact decide_eq_true e
  · refine pk_le b a (fun y => absurd y (by omega)) (fun _ => ?_)
    rw [pk_sub (by omega)]
    refine hg_25 ha (by omega) (fun e => h0 ?_) (fun e => h1 ?_)
    · rw [hg_w4, if_neg (by omega)]
      exact decide_eq_false (fun t => t e)
    · rw [hg_w4, if_neg (by omega)]
      exact decide_eq_true e
theorem hg_21 {l u : Nat} (hl : l < 32) (hu : u < 32) (h1 : hg_rr l u = true → post 1) (h0 : hg_rr l u = false → post 0) : wX_wonRatio_21 post (nI l) (nI u) f h m := by
  have m1 : u * u ≤ 31 * 31 := Nat.mul_le_mul (by omega) (by omega)
  have m2 : u * l ≤ 31 * 31 := Nat.mul_le_mul (by omega) (by omega)
  have m3 : l * l ≤ 31 * 31 := Nat.mul_le_mul (by omega) (by omega)
  refine pk_le l 0 (fun z => h0 (decide_eq_false (fun t => ?_))) (fun z => pk_eq l u (fun y => h1 (decide_eq_true ⟨z, Or.inl y⟩)) (fun y => pk_le (u * u) (u * l + l * l) (fun x => h0 (decide_eq_false (fun t => ?_))) (fun x => h1 (decide_eq_true ⟨z, Or.inr x⟩)) (pk_mul u u) (by rw [pk_mul, pk_mul, nI_add])))
  · exact absurd t.1 (by omega)
  · rcases t.2 with q | q
    · exact y q
    · omega
theorem hg_ratio {a b : Nat} (ha : a < 32) (hb : b < 32) (h1 : hg_w5 a b = true → post 1) (h0 : hg_w5 a b = false → post 0) : wpX_wonRatio post (f, h, m) (nI a) (nI b) := by
  refine pk_le b a (fun z => ?_) (fun z => ?_)
  · refine pk_le b a (fun _ => ?_) (fun y => absurd y (by omega))
    rw [hg_w5, if_pos z] at h1 h0
    exact hg_21 hb ha h1 h0
  · refine pk_le b a (fun y => absurd y (by omega)) (fun _ => ?_)
    rw [hg_w5, if_neg (by omega)] at h1 h0
    exact hg_21 ha hb h1 h0
theorem hg_20 {a b c s : Nat} (ha : a < 32) (hb : b < 32) (hc : c < 32) (hs : s < 2) (h1 : (s = 1 ↔ a ^^^ b ^^^ c = 0) → post 1) (h0 : ¬ (s = 1 ↔ a ^^^ b ^^^ c = 0) → post 0) : wX_wonLast_20 post (nI a) (nI b) (nI c) (nI s) f h m := by
  obtain ⟨e, l⟩ := hg_xor ha hb hc
  unfold wX_wonLast_20
  rw [e]
  refine pk_eq _ 0 (fun z => pk_eq s 1 (fun y => h1 ⟨fun _ => z, fun _ => y⟩) (fun y => h0 (fun t => y (t.mpr z)))) (fun z => pk_eq s 0 (fun y => h1 ⟨fun t => absurd t (by omega), fun t => absurd t z⟩) (fun y => h0 (fun t => z (t.mp (by omega)))))
theorem hg_last {a b c : Nat} (ha : a < 32) (hb : b < 32) (hc : c < 32) (h1 : hg_won 1 a b c = true → post 1) (h0 : hg_won 1 a b c = false → post 0) : wpX_wonLast post (f, h, m) (nI a) (nI b) (nI c) := by
  have big : ¬ (a < 2 ∧ b < 2 ∧ c < 2) → wX_wonLast_19 post (nI a) (nI b) (nI c) f h m := by
    intro hn
    refine hg_20 (s := 0) ha hb hc (by omega) (fun t => h1 (decide_eq_true ⟨fun z => absurd z hn, fun z => absurd (t.mpr z) (by omega)⟩)) (fun t => h0 (decide_eq_false (fun z => t ⟨fun y => absurd y (by omega), fun y => absurd (z.mpr y) hn⟩)))
  refine pk_le 2 a (fun z => big (by omega)) (fun z1 => pk_le 2 b (fun z => big (by omega)) (fun z2 => pk_le 2 c (fun z => big (by omega)) (fun z3 => ?_)))
  exact hg_20 (s := 1) ha hb hc (by omega) (fun t => h1 (decide_eq_true ⟨fun _ => t.mp rfl, fun _ => ⟨z1, z2, z3⟩⟩)) (fun t => h0 (decide_eq_false (fun z => t ⟨fun _ => z.mp ⟨z1, z2, z3⟩, fun _ => rfl⟩)))
theorem hg_isWon {g a b c : Nat} (hg : g < 8) (ha : a < 32) (hb : b < 32) (hc : c < 32) (h1 : hg_won g a b c = true → post 1) (h0 : hg_won g a b c = false → post 0) : wpX_isWon post (f, h, m) (nI g) (nI a) (nI b) (nI c) := by
  obtain ⟨e, l⟩ := hg_xor ha hb hc
  have h67 : hg_won g a b c = decide ((a ^^^ b ^^^ c) % 4 ≠ 0) → (((((nI a ^^^ nI b) ^^^ nI c) &&& 3) = 0 → (post 0)) ∧ (¬ (((nI a ^^^ nI b) ^^^ nI c) &&& 3) = 0 → (post 1))) := by
    intro eg
    rw [eg] at h1 h0
    rw [e, hg_and3 l]
    exact pk_eq _ 0 (fun z => h0 (decide_eq_false (fun t => t z))) (fun z => h1 (decide_eq_true z))
  rcases (show g = 0 ∨ g = 1 ∨ g = 2 ∨ g = 3 ∨ g = 4 ∨ g = 5 ∨ g = 6 ∨ g = 7 by omega) with rfl | rfl | rfl | rfl | rfl | rfl | rfl | rfl
  · refine br_t rfl ?_
    rw [e]
    exact pk_eq _ 0 (fun z => h0 (decide_eq_false (fun t => t z))) (fun z => h1 (decide_eq_true z))
  · exact br_f (by decide) (br_t rfl (hg_last ha hb hc (fun t => ⟨rfl, h1 t⟩) (fun t => ⟨rfl, h0 t⟩)))
  · exact br_f (by decide) (br_f (by decide) (br_t rfl (pk_eq a b (fun y => pk_eq b c (fun z => h0 (decide_eq_false (fun t => t ⟨y, z⟩))) (fun z => h1 (decide_eq_true (fun t => z t.2)))) (fun y => h1 (decide_eq_true (fun t => y t.1))))))
  · exact br_f (by decide) (br_f (by decide) (br_f (by decide) (br_t rfl (pk_eq a c (fun y => h0 (decide_eq_false (fun t => t y))) (fun y => h1 (decide_eq_true y))))))
  · exact br_f (by decide) (br_f (by decide) (br_f (by decide) (br_f (by decide) (br_t rfl (hg_golden ha hb (fun t => ⟨rfl, h1 t⟩) (fun t => ⟨rfl, h0 t⟩))))))
  · exact br_f (by decide) (br_f (by decide) (br_f (by decide) (br_f (by decide) (br_f (by decide) (br_t rfl (hg_ratio ha hb (fun t => ⟨rfl, h1 t⟩) (fun t => ⟨rfl, h0 t⟩)))))))
  · exact br_f (by decide) (br_f (by decide) (br_f (by decide) (br_f (by decide) (br_f (by decide) (br_f (by decide) (h67 rfl))))))
  · exact br_f (by decide) (br_f (by decide) (br_f (by decide) (br_f (by decide) (br_f (by decide) (br_f (by decide) (h67 rfl))))))
theorem hg_14 {J : Int32 → Int32 → Prop} {l : Nat} (hl : l < 61) : ∀ k o p, 1 ≤ o → o ≤ l → o < p → p ≤ 2 * l → l < p + k → (1 ≤ hg_fi k l o p → hg_fi k l o p ≤ l → J (nI (l - hg_fi k l o p)) (nI (hg_fi k l o p))) → wX_leastPart_14 post J (nI l) f h m (k + 1) (nI o) (nI p) := by
  intro k
  induction k with
  | zero =>
    intro o p h1 h2 h3 h4 h5 H
    exact pk_lt l p (fun _ => nm_r (pk_sub h2) (H h1 h2)) (fun z => absurd z (by omega))
  | succ k ih =>
    intro o p h1 h2 h3 h4 h5 H
    rw [hg_fi] at H
    refine pk_lt l p (fun z => nm_r (pk_sub h2) ?_) (fun z => nm_r (nI_add o p) (ih p (o + p) (by omega) z (by omega) (by omega) (by omega) ?_))
    · rw [if_pos z] at H
      exact H h1 h2
    · rw [if_neg (by omega)] at H
      exact H
theorem hg_lp4 : ∀ k l p, l ≤ k → l < 61 → post (nI (hg_lq k l p)) → wX_leastPart_4 post f h m (k + 1) (nI l) (nI p) := by
  intro k
  induction k with
  | zero => exact fun l p h1 h2 H => pk_le l 0 (fun _ => H) (fun z => absurd z (by omega))
  | succ k ih =>
    intro l p h1 h2 H
    rw [hg_lq] at H
    refine pk_le l 0 (fun z => ?_) (fun z => ⟨61, hg_14 h2 60 1 2 (by omega) (by omega) (by omega) (by omega) (by omega) (fun r1 r2 => ih _ _ (by omega) (by omega) ?_)⟩)
    · rw [if_pos (by omega)] at H
      exact H
    · rw [if_neg (by omega)] at H
      exact H
theorem hg_least {n : Nat} (hn : n < 61) (H : post (nI (hg_lp n))) : wpX_leastPart post (f, h, m) (nI n) := ⟨61, hg_lp4 60 n 0 (by omega) hn H⟩
theorem hg_with {n k : Nat} (hn : n < 61) (hk : k < 1000) (h1 : hg_ww n k = true → post 1) (h0 : hg_ww n k = false → post 0) : wpX_wonWith post (f, h, m) (nI n) (nI k) := by
  have b := hg_lp_le n hn
  exact hg_least hn (pk_le n 0 (fun z => h0 (decide_eq_false (fun t => absurd t.1 (by omega)))) (fun z => pk_lt k (hg_lp n) (fun y => h0 (decide_eq_false (fun t => absurd t.2 (by omega)))) (fun y => h1 (decide_eq_true ⟨z, y⟩))))
theorem hg_single {a b c : Nat} (hH : hg_H a b c h) (H : post (nI (hg_sg a b))) : wpX_single post (f, h, m) := by
  obtain ⟨e0, e1, e2, l0, l1, l2⟩ := hH
  have e : h 0 + 16 * h 1 = nI (a + 16 * b) := by
    rw [e0, e1]
    show nI a + nI 16 * nI b = nI (a + 16 * b)
    rw [pk_mul, nI_add]
  refine nm_r e (pk_le (a + 16 * b) 60 (fun z => ?_) (fun z => ?_))
  · rw [hg_sg, if_pos z] at H
    exact H
  · rw [hg_sg, if_neg (by omega)] at H
    exact H
theorem hg_wonX {g a b c : Nat} (hH : hg_H a b c h) (hg : g < 8) (h1 : hg_wn g a b c = true → post 1) (h0 : hg_wn g a b c = false → post 0) : wpX_won post (f, h, m) (nI g) := by
  have hH' := hH
  obtain ⟨e0, e1, e2, l0, l1, l2⟩ := hH'
  have ls := hg_sg_le a b
  unfold wpX_won
  dsimp only
  refine hg_bad hg (br_t rfl (pk_eq g 6 (fun z => ?_) (fun z => ?_)))
  · rw [hg_wn, if_pos z] at h1 h0
    refine hg_single hH ?_
    rw [e2]
    exact hg_with (by omega) (by omega) (fun t => br_f (by decide) (h1 t)) (fun t => br_t rfl (h0 t))
  · rw [hg_wn, if_neg z] at h1 h0
    rw [e0, e1, e2]
    exact hg_isWon hg (by omega) (by omega) (by omega) (fun t => br_f (by decide) (h1 t)) (fun t => br_t rfl (h0 t))
end
end
section
/-! ===== moves: sets of numbers, and the walks that collect them ===== -/
/-- a position considered, and kept: all, or it is lost for who must move there -/
def hg_k (al g a b c v : Nat) : Prop := (al ≠ 0 ∨ hg_won g a b c = false) ∧ v = a + 32 * b + 1024 * c
def hg_U (E : Nat → Nat → Prop) (i v : Nat) : Prop := ∃ j, j < i ∧ E j v
theorem hg_U_0 (E : Nat → Nat → Prop) (v : Nat) : ¬ hg_U E 0 v := fun ⟨j, hj, _⟩ => absurd hj (by omega)
theorem hg_U_1 (E : Nat → Nat → Prop) (i v : Nat) : hg_U E (i + 1) v ↔ hg_U E i v ∨ E i v := by
  constructor
  · rintro ⟨j, hj, e⟩
    by_cases z : j = i
    · subst z
      exact Or.inr e
    · exact Or.inl ⟨j, by omega, e⟩
  · rintro (⟨j, hj, e⟩ | e)
    · exact ⟨j, by omega, e⟩
    · exact ⟨i, by omega, e⟩
/-- a turn of a loop: from the set so far to the next -/
theorem hg_turn {P : Nat → Prop} {E : Nat → Nat → Prop} {i k k' : Nat} {f : Int32} {m : Nat → Int32} (R : Nat → Prop) (h : hg_S (fun v => (P v ∨ hg_U E i v) ∨ R v) k f m) (hk : k ≤ k') (e : ∀ v, R v ↔ E i v) : hg_S (fun v => P v ∨ hg_U E (i + 1) v) k' f m :=
  hg_S_cg h hk (fun v => by rw [hg_U_1, e v, or_assoc])
theorem hg_skip {P : Nat → Prop} {E : Nat → Nat → Prop} {i k k' : Nat} {f : Int32} {m : Nat → Int32} (h : hg_S (fun v => P v ∨ hg_U E i v) k f m) (hk : k ≤ k') (e : ∀ v, ¬ E i v) : hg_S (fun v => P v ∨ hg_U E (i + 1) v) k' f m :=
  hg_S_cg h hk (fun v => by
    rw [hg_U_1]
    constructor
    · rintro (z | z)
      · exact Or.inl z
      · exact Or.inr (Or.inl z)
    · rintro (z | z | z)
      · exact Or.inl z
      · exact Or.inr z
      · exact absurd z (e v))
theorem hg_start {P : Nat → Prop} {E : Nat → Nat → Prop} {i k : Nat} {f : Int32} {m : Nat → Int32} (h : hg_S P k f m) (e : ∀ v, ¬ hg_U E i v) : hg_S (fun v => P v ∨ hg_U E i v) k f m :=
  hg_S_cg h (Nat.le_refl k) (fun v => ⟨Or.inl, fun z => z.elim id (fun y => absurd y (e v))⟩)
section
variable {post : St1 → Prop} {P : Nat → Prop} {k al : Nat} {f : Int32} {h m : Nat → Int32}
theorem hg_cons {g a b c : Nat} (hS : hg_S P k f m) (hk : k < 800) (hg : g < 8) (ha : a < 32) (hb : b < 32) (hc : c < 32) (hal : al < 2)
    (H : ∀ f' m', hg_S (fun v => P v ∨ hg_k al g a b c v) (k + 1) f' m' → post (f', h, m')) : wpX_consider post (f, h, m) (nI g) (nI a) (nI b) (nI c) (nI al) := by
  have kp : (al ≠ 0 ∨ hg_won g a b c = false) → wX_consider_17 post (nI a) (nI b) (nI c) f h m := by
    intro hq
    have e : (nI a + 32 * nI b) + 1024 * nI c = nI (a + 32 * b + 1024 * c) := by
      show (nI a + nI 32 * nI b) + nI 1024 * nI c = nI (a + 32 * b + 1024 * c)
      rw [pk_mul, pk_mul, nI_add, nI_add]
    unfold wX_consider_17
    rw [e]
    refine hg_keep hS hk (by omega) (fun f' m' h' => H f' m' (hg_S_cg h' (Nat.le_refl _) (fun v => ?_)))
    exact ⟨fun z => z.elim Or.inl (fun y => Or.inr ⟨hq, y⟩), fun z => z.elim Or.inl (fun y => Or.inr y.2)⟩
  refine pk_eq al 0 (fun z => ?_) (fun z => kp (Or.inl z))
  refine hg_isWon hg ha hb hc (fun t => br_f (by decide) (H f m (hg_S_cg hS (by omega) (fun v => ⟨Or.inl, fun y => y.elim id (fun x => ?_)⟩)))) (fun t => br_t rfl (kp (Or.inr t)))
  rcases x.1 with w | w
  · exact absurd z w
  · rw [t] at w
    exact absurd w (by decide)
/-! fromOne -/
def hg_fo (g ms al a b c i v : Nat) : Prop := (i % 3 < 2 ∨ g ≠ 4) ∧ i / 3 + 1 ≤ ms ∧ ((i % 3 = 0 ∧ i / 3 + 1 ≤ a ∧ hg_k al g (a - (i / 3 + 1)) b c v) ∨ (i % 3 = 1 ∧ i / 3 + 1 ≤ b ∧ hg_k al g a (b - (i / 3 + 1)) c v) ∨ (i % 3 = 2 ∧ i / 3 + 1 ≤ c ∧ hg_k al g a b (c - (i / 3 + 1)) v))
theorem hg_fromOne {g ms a b c : Nat} (hH : hg_H a b c h) (hS : hg_S P k f m) (hk : k + 48 < 800) (hg : g < 8) (hms : ms < 16) (hal : al < 2)
    (H : ∀ f' m', hg_S (fun v => P v ∨ hg_U (hg_fo g ms al a b c) 48 v) (k + 48) f' m' → post (f', h, m')) : wpX_fromOne post (f, h, m) (nI g) (nI ms) (nI al) := by
  obtain ⟨e0, e1, e2, l0, l1, l2⟩ := hH
  refine pk_loop (fun n i s => wX_fromOne_3 post (nI g) (nI ms) (nI al) n (nI i) s.1 h s.2) (fun i s => hg_S (fun v => P v ∨ hg_U (hg_fo g ms al a b c) i v) (k + i) s.1 s.2) 48 0 (f, m) (by omega) (hg_start hS (hg_U_0 _))
    (fun n s hs => pk_le 48 48 (fun _ => H _ _ hs) (fun z => absurd z (by omega))) ?_
  intro n i s hi hs hw
  obtain ⟨f, m⟩ := s
  dsimp only at hs hw ⊢
  refine pk_le 48 i (fun z => absurd z (by omega)) (fun _ => ⟨by decide, nm_r (pk_rem (d := 3) (by omega) (by omega) (by omega)) ⟨by decide, nm_r (e' := nI (i / 3 + 1)) ?_ ?_⟩⟩)
  · rw [show nI i / 3 = nI (i / 3) from pk_div (d := 3) (by omega) (by omega) (by omega), nI_1]
  have skip : (∀ v, ¬ hg_fo g ms al a b c i v) → wX_fromOne_3 post (nI g) (nI ms) (nI al) n (nI (i + 1)) f h m := fun e => hw (f, m) (hg_skip hs (by omega) e)
  have step : ∀ (R : Nat → Prop) (f' : Int32) (m' : Nat → Int32), (∀ v, R v ↔ hg_fo g ms al a b c i v) → hg_S (fun v => (P v ∨ hg_U (hg_fo g ms al a b c) i v) ∨ R v) (k + i + 1) f' m' → wX_fromOne_3 post (nI g) (nI ms) (nI al) n (nI (i + 1)) f' h m' := fun R f' m' e h' => hw (f', m') (hg_turn R h' (by omega) e)
  unfold hg_fo at skip step
  generalize hq : i / 3 + 1 = q at *
  have ql : q ≤ 16 := by omega
  clear hq
  rcases (show i % 3 = 0 ∨ i % 3 = 1 ∨ i % 3 = 2 by omega) with r | r | r
  · rw [r] at skip step ⊢
    refine br_t (by decide) (br_f (by decide) ⟨pk_in 0 3 (by omega), ?_⟩)
    rw [show (nI 0).toNatClampNeg = 0 from rfl, e0]
    refine pk_lt a q (fun z => nm_r (nI_1 i) (skip ?_)) (fun z => pk_lt ms q (fun y => nm_r (nI_1 i) (skip ?_)) (fun y => br_t rfl (br_f (by decide) (br_f (by decide) ?_))))
    · intro v
      omega
    · intro v
      omega
    · unfold wX_fromOne_122
      rw [e1, e2, pk_sub z, Int32.sub_zero, Int32.sub_zero]
      refine hg_cons hs (by omega) hg (by omega) (by omega) (by omega) hal (fun f' m' h' => nm_r (nI_1 i) (step _ f' m' ?_ h'))
      intro v
      constructor
      · exact fun w => ⟨Or.inl (by omega), y, Or.inl ⟨rfl, z, w⟩⟩
      · rintro ⟨_, _, w | w | w⟩
        · exact w.2.2
        · exact absurd w.1 (by omega)
        · exact absurd w.1 (by omega)
  · rw [r] at skip step ⊢
    refine br_t (by decide) (br_f (by decide) ⟨pk_in 1 3 (by omega), ?_⟩)
    rw [show (nI 1).toNatClampNeg = 1 from rfl, e1]
    refine pk_lt b q (fun z => nm_r (nI_1 i) (skip ?_)) (fun z => pk_lt ms q (fun y => nm_r (nI_1 i) (skip ?_)) (fun y => br_f (by decide) (br_t rfl (br_f (by decide) ?_))))
    · intro v
      omega
    · intro v
      omega
    · unfold wX_fromOne_122
      rw [e0, e1, e2, pk_sub z, Int32.sub_zero, Int32.sub_zero]
      refine hg_cons hs (by omega) hg (by omega) (by omega) (by omega) hal (fun f' m' h' => nm_r (nI_1 i) (step _ f' m' ?_ h'))
      intro v
      constructor
      · exact fun w => ⟨Or.inl (by omega), y, Or.inr (Or.inl ⟨rfl, z, w⟩)⟩
      · rintro ⟨_, _, w | w | w⟩
        · exact absurd w.1 (by omega)
        · exact w.2.2
        · exact absurd w.1 (by omega)
  · rw [r] at skip step ⊢
    refine br_f (by decide) (pk_eq g 4 (fun x => br_t rfl (nm_r (nI_1 i) (skip ?_))) (fun x => br_f (by decide) ⟨pk_in 2 3 (by omega), ?_⟩))
    · intro v
      omega
    rw [show (nI 2).toNatClampNeg = 2 from rfl, e2]
    refine pk_lt c q (fun z => nm_r (nI_1 i) (skip ?_)) (fun z => pk_lt ms q (fun y => nm_r (nI_1 i) (skip ?_)) (fun y => br_f (by decide) (br_f (by decide) (br_t rfl ?_))))
    · intro v
      omega
    · intro v
      omega
    · unfold wX_fromOne_122
      rw [e0, e1, e2, pk_sub z, Int32.sub_zero, Int32.sub_zero]
      refine hg_cons hs (by omega) hg (by omega) (by omega) (by omega) hal (fun f' m' h' => nm_r (nI_1 i) (step _ f' m' ?_ h'))
      intro v
      constructor
      · exact fun w => ⟨Or.inr x, y, Or.inr (Or.inr ⟨rfl, z, w⟩)⟩
      · rintro ⟨_, _, w | w | w⟩
        · exact absurd w.1 (by omega)
        · exact absurd w.1 (by omega)
        · exact w.2.2
end
end
section
section
variable {post : St1 → Prop} {P : Nat → Prop} {k al : Nat} {f : Int32} {h m : Nat → Int32}
theorem hg_U_le {E : Nat → Nat → Prop} {i i' v : Nat} (hi : i ≤ i') (e : ∀ j, i ≤ j → ¬ E j v) : hg_U E i v ↔ hg_U E i' v := by
  constructor
  · rintro ⟨j, hj, w⟩
    exact ⟨j, by omega, w⟩
  · rintro ⟨j, hj, w⟩
    rcases Nat.lt_or_ge j i with z | z
    · exact ⟨j, z, w⟩
    · exact absurd w (e j z)
/-! equallyMany -/
def hg_em (al a b c j v : Nat) : Prop := 1 ≤ j ∧ j ≤ a ∧ j ≤ b ∧ hg_k al 4 (a - j) (b - j) c v
theorem hg_equally {a b c : Nat} (hH : hg_H a b c h) (hS : hg_S P k f m) (hk : k + 16 < 800) (hal : al < 2)
    (H : ∀ f' m', hg_S (fun v => P v ∨ hg_U (hg_em al a b c) 16 v) (k + 16) f' m' → post (f', h, m')) : wpX_equallyMany post (f, h, m) (nI al) := by
  obtain ⟨e0, e1, e2, l0, l1, l2⟩ := hH
  have fin : ∀ i f m, (a < i ∨ b < i) → i ≤ 16 → hg_S (fun v => P v ∨ hg_U (hg_em al a b c) i v) (k + i) f m → post (f, h, m) := by
    intro i f m hi hi2 hs
    refine H f m (hg_S_cg hs (by omega) (fun v => or_congr Iff.rfl (hg_U_le hi2 (fun j hj e => ?_))))
    obtain ⟨t1, t2, t3, _⟩ := e
    omega
  refine pk_loop (fun n i s => wX_equallyMany_2 post (nI al) n (nI i) s.1 h s.2) (fun i s => 1 ≤ i ∧ hg_S (fun v => P v ∨ hg_U (hg_em al a b c) i v) (k + i) s.1 s.2) 16 1 (f, m) (by omega) ⟨by omega, hg_S_cg (hg_start hS (i := 1) ?_) (by omega) (fun v => Iff.rfl)⟩
    (fun n s hs => ?_) ?_
  · rintro v ⟨j, hj, e⟩
    exact absurd e.1 (by omega)
  · exact pk_lt a 16 (fun _ => fin 16 _ _ (by omega) (by omega) hs.2) (fun z => absurd z (by omega)) e0
  intro n i s hi hs hw
  obtain ⟨f, m⟩ := s
  obtain ⟨i1, hs⟩ := hs
  dsimp only at hs hw ⊢
  refine pk_lt a i (fun z => fin i _ _ (by omega) (by omega) hs) (fun z => pk_lt b i (fun y => fin i _ _ (by omega) (by omega) hs) (fun y => ?_) e1) e0
  rw [e0, e1, e2, pk_sub z, pk_sub y]
  exact hg_cons (g := 4) hs (by omega) (by omega) (by omega) (by omega) (by omega) hal (fun f' m' h' => nm_r (nI_1 i) (hw (f', m') ⟨by omega, hg_turn _ h' (by omega) (fun v => ⟨fun w => ⟨by omega, z, y, w⟩, fun w => w.2.2.2⟩)⟩))
/-! downStairs -/
def hg_ds (al a b c j v : Nat) : Prop := 1 ≤ j ∧ ((j ≤ a ∧ hg_k al 3 (a - j) b c v) ∨ (j ≤ b ∧ hg_k al 3 (a + j) (b - j) c v) ∨ (j ≤ c ∧ hg_k al 3 a (b + j) (c - j) v))
/-- one 'if (..) consider(..)' -/
theorem hg_S_in {Q R : Nat → Prop} {C : Prop} {k : Nat} {f : Int32} {m : Nat → Int32} (hc : C) (hs : hg_S (fun v => Q v ∨ R v) k f m) : hg_S (fun v => Q v ∨ (C ∧ R v)) k f m :=
  hg_S_cg hs (Nat.le_refl k) (fun v => or_congr Iff.rfl ⟨fun w => ⟨hc, w⟩, fun w => w.2⟩)
theorem hg_S_out {Q R : Nat → Prop} {C : Prop} {k : Nat} {f : Int32} {m : Nat → Int32} (hc : ¬ C) (hs : hg_S Q k f m) : hg_S (fun v => Q v ∨ (C ∧ R v)) (k + 1) f m :=
  hg_S_cg hs (by omega) (fun v => ⟨Or.inl, fun w => w.elim id (fun y => absurd y.1 hc)⟩)
theorem hg_stairs {a b c : Nat} (hH : hg_H a b c h) (hS : hg_S P k f m) (hk : k + 48 < 800) (hal : al < 2)
    (H : ∀ f' m', hg_S (fun v => P v ∨ hg_U (hg_ds al a b c) 16 v) (k + 48) f' m' → post (f', h, m')) : wpX_downStairs post (f, h, m) (nI al) := by
  obtain ⟨e0, e1, e2, l0, l1, l2⟩ := hH
  refine pk_loop (fun n i s => wX_downStairs_2 post (nI al) n (nI i) s.1 h s.2) (fun i s => 1 ≤ i ∧ hg_S (fun v => P v ∨ hg_U (hg_ds al a b c) i v) (k + 3 * i) s.1 s.2) 16 1 (f, m) (by omega) ⟨by omega, hg_S_cg (hg_start hS (i := 1) ?_) (by omega) (fun v => Iff.rfl)⟩
    (fun n s hs => pk_lt 15 16 (fun _ => H _ _ hs.2) (fun z => absurd z (by omega))) ?_
  · rintro v ⟨j, hj, e⟩
    exact absurd e.1 (by omega)
  intro n i s hi hs hw
  obtain ⟨f, m⟩ := s
  obtain ⟨i1, hs⟩ := hs
  dsimp only at hs hw ⊢
  refine pk_lt 15 i (fun z => absurd z (by omega)) (fun _ => ?_)
  have s3 : ∀ f m, hg_S (fun v => (((P v ∨ hg_U (hg_ds al a b c) i v) ∨ (i ≤ a ∧ hg_k al 3 (a - i) b c v)) ∨ (i ≤ b ∧ hg_k al 3 (a + i) (b - i) c v)) ∨ (i ≤ c ∧ hg_k al 3 a (b + i) (c - i) v)) (k + 3 * i + 1 + 1 + 1) f m → wX_downStairs_2 post (nI al) n (nI (i + 1)) f h m := by
    intro f m h'
    refine hw (f, m) ⟨by omega, hg_S_cg h' (by omega) (fun v => ?_)⟩
    rw [hg_U_1, or_assoc, or_assoc, or_assoc]
    refine or_congr Iff.rfl (or_congr Iff.rfl ⟨fun w => ⟨i1, w⟩, fun w => w.2⟩)
  have s2 : ∀ f m, hg_S (fun v => ((P v ∨ hg_U (hg_ds al a b c) i v) ∨ (i ≤ a ∧ hg_k al 3 (a - i) b c v)) ∨ (i ≤ b ∧ hg_k al 3 (a + i) (b - i) c v)) (k + 3 * i + 1 + 1) f m → wX_downStairs_82 post (wX_downStairs_2 post (nI al) n) (nI al) (nI i) f h m := by
    intro f m h'
    refine pk_lt c i (fun z => nm_r (nI_1 i) (s3 _ _ (hg_S_out (by omega) h'))) (fun z => ?_) e2
    rw [e0, e1, e2, nI_add, pk_sub z]
    exact hg_cons (g := 3) h' (by omega) (by omega) (by omega) (by omega) (by omega) hal (fun f' m' h2 => nm_r (nI_1 i) (s3 _ _ (hg_S_in z h2)))
  have s1 : ∀ f m, hg_S (fun v => (P v ∨ hg_U (hg_ds al a b c) i v) ∨ (i ≤ a ∧ hg_k al 3 (a - i) b c v)) (k + 3 * i + 1) f m → wX_downStairs_44 post (wX_downStairs_2 post (nI al) n) (nI al) (nI i) f h m := by
    intro f m h'
    refine pk_lt b i (fun z => s2 _ _ (hg_S_out (by omega) h')) (fun z => ?_) e1
    rw [e0, e1, e2, nI_add, pk_sub z]
    exact hg_cons (g := 3) h' (by omega) (by omega) (by omega) (by omega) (by omega) hal (fun f' m' h2 => s2 _ _ (hg_S_in z h2))
  refine pk_lt a i (fun z => s1 _ _ (hg_S_out (by omega) hs)) (fun z => ?_) e0
  rw [e0, e1, e2, pk_sub z]
  exact hg_cons (g := 3) hs (by omega) (by omega) (by omega) (by omega) (by omega) hal (fun f' m' h2 => s1 _ _ (hg_S_in z h2))
/-! multiples -/
def hg_mu (al a b c j v : Nat) : Prop := (1 ≤ j ∧ 0 < a ∧ 0 < b) ∧ ((j * b ≤ a ∧ hg_k al 5 (a - j * b) b c v) ∨ (j * a ≤ b ∧ hg_k al 5 a (b - j * a) c v))
theorem hg_multiples {a b c : Nat} (hH : hg_H a b c h) (hS : hg_S P k f m) (hk : k + 48 < 800) (hal : al < 2)
    (H : ∀ f' m', hg_S (fun v => P v ∨ hg_U (hg_mu al a b c) 16 v) (k + 48) f' m' → post (f', h, m')) : wpX_multiples post (f, h, m) (nI al) := by
  obtain ⟨e0, e1, e2, l0, l1, l2⟩ := hH
  have fin : ∀ i f m, (a = 0 ∨ b = 0 ∨ 16 ≤ i) → i ≤ 16 → hg_S (fun v => P v ∨ hg_U (hg_mu al a b c) i v) (k + 3 * i) f m → post (f, h, m) := by
    intro i f m hi hi2 hs
    refine H f m (hg_S_cg hs (by omega) (fun v => or_congr Iff.rfl ?_))
    rcases (show i = 16 ∨ (a = 0 ∨ b = 0) by omega) with z | z
    · rw [z]
    · exact hg_U_le hi2 (fun j hj e => by have := e.1; omega)
  refine nm_r e0 (nm_r e1 ?_)
  refine pk_loop (fun n i s => wX_multiples_17 post (nI al) (nI a) (nI b) n (nI i) s.1 h s.2) (fun i s => 1 ≤ i ∧ hg_S (fun v => P v ∨ hg_U (hg_mu al a b c) i v) (k + 3 * i) s.1 s.2) 16 1 (f, m) (by omega) ⟨by omega, hg_S_cg (hg_start hS (i := 1) ?_) (by omega) (fun v => Iff.rfl)⟩
    (fun n s hs => pk_lt 15 16 (fun _ => fin 16 _ _ (by omega) (by omega) hs.2) (fun z => absurd z (by omega))) ?_
  · rintro v ⟨j, hj, e⟩
    exact absurd e.1.1 (by omega)
  intro n i s hi hs hw
  obtain ⟨f, m⟩ := s
  obtain ⟨i1, hs⟩ := hs
  dsimp only at hs hw ⊢
  have m1 : i * b ≤ 16 * 16 := Nat.mul_le_mul (by omega) (by omega)
  have m2 : i * a ≤ 16 * 16 := Nat.mul_le_mul (by omega) (by omega)
  refine pk_lt 15 i (fun z => absurd z (by omega)) (fun _ => pk_le a 0 (fun z => fin i _ _ (by omega) (by omega) hs) (fun a0 => pk_le b 0 (fun z => fin i _ _ (by omega) (by omega) hs) (fun b0 => ?_)))
  have s3 : ∀ f m, hg_S (fun v => ((P v ∨ hg_U (hg_mu al a b c) i v) ∨ (i * b ≤ a ∧ hg_k al 5 (a - i * b) b c v)) ∨ (i * a ≤ b ∧ hg_k al 5 a (b - i * a) c v)) (k + 3 * i + 1 + 1) f m → wX_multiples_17 post (nI al) (nI a) (nI b) n (nI (i + 1)) f h m := by
    intro f m h'
    refine hw (f, m) ⟨by omega, hg_S_cg h' (by omega) (fun v => ?_)⟩
    rw [hg_U_1, or_assoc, or_assoc]
    exact or_congr Iff.rfl (or_congr Iff.rfl ⟨fun w => ⟨⟨i1, a0, b0⟩, w⟩, fun w => w.2⟩)
  have s2 : ∀ f m, hg_S (fun v => (P v ∨ hg_U (hg_mu al a b c) i v) ∨ (i * b ≤ a ∧ hg_k al 5 (a - i * b) b c v)) (k + 3 * i + 1) f m → wX_multiples_59 post (wX_multiples_17 post (nI al) (nI a) (nI b) n) (nI al) (nI a) (nI b) (nI i) f h m := by
    intro f m h'
    refine pk_lt b (i * a) (fun z => nm_r (nI_1 i) (s3 _ _ (hg_S_out (by omega) h'))) (fun z => ?_) rfl (pk_mul i a)
    rw [e2, pk_mul, pk_sub z]
    exact hg_cons (g := 5) h' (by omega) (by omega) (by omega) (by omega) (by omega) hal (fun f' m' h2 => nm_r (nI_1 i) (s3 _ _ (hg_S_in z h2)))
  refine pk_lt a (i * b) (fun z => s2 _ _ (hg_S_out (by omega) hs)) (fun z => ?_) rfl (pk_mul i b)
  rw [e2, pk_mul, pk_sub z]
  exact hg_cons (g := 5) hs (by omega) (by omega) (by omega) (by omega) (by omega) hal (fun f' m' h2 => s2 _ _ (hg_S_in z h2))
/-! fromSingle -/
def hg_fs (al n c j v : Nat) : Prop := 1 ≤ j ∧ j ≤ n ∧ j ≤ c ∧ (al ≠ 0 ∨ hg_ww (n - j) (2 * j) = false) ∧ v = j
theorem hg_single1 {a b c : Nat} (hH : hg_H a b c h) (hS : hg_S P k f m) (hk : k + 16 < 800) (hal : al < 2)
    (H : ∀ f' m', hg_S (fun v => P v ∨ hg_U (hg_fs al (hg_sg a b) c) 16 v) (k + 16) f' m' → post (f', h, m')) : wpX_fromSingle post (f, h, m) (nI al) := by
  unfold wpX_fromSingle
  dsimp only
  refine hg_single hH ?_
  have ln := hg_sg_le a b
  generalize hg_sg a b = N at *
  obtain ⟨e0, e1, e2, l0, l1, l2⟩ := hH
  have fin : ∀ i f m, (N < i ∨ c < i) → i ≤ 16 → hg_S (fun v => P v ∨ hg_U (hg_fs al N c) i v) (k + i) f m → post (f, h, m) := by
    intro i f m hi hi2 hs
    refine H f m (hg_S_cg hs (by omega) (fun v => or_congr Iff.rfl (hg_U_le hi2 (fun j hj e => ?_))))
    obtain ⟨t1, t2, t3, _⟩ := e
    omega
  refine pk_loop (fun n i s => wX_fromSingle_7 post (nI al) (nI N) n (nI i) s.1 h s.2) (fun i s => 1 ≤ i ∧ hg_S (fun v => P v ∨ hg_U (hg_fs al N c) i v) (k + i) s.1 s.2) 16 1 (f, m) (by omega) ⟨by omega, hg_S_cg (hg_start hS (i := 1) ?_) (by omega) (fun v => Iff.rfl)⟩
    (fun n s hs => ?_) ?_
  · rintro v ⟨j, hj, e⟩
    exact absurd e.1 (by omega)
  · exact pk_lt N 16 (fun _ => fin 16 _ _ (by omega) (by omega) hs.2) (fun z => pk_lt c 16 (fun _ => fin 16 _ _ (by omega) (by omega) hs.2) (fun z => absurd z (by omega)) e2)
  intro n i s hi hs hw
  obtain ⟨f, m⟩ := s
  obtain ⟨i1, hs⟩ := hs
  dsimp only at hs hw ⊢
  refine pk_lt N i (fun z => fin i _ _ (by omega) (by omega) hs) (fun z => pk_lt c i (fun y => fin i _ _ (by omega) (by omega) hs) (fun y => ?_) e2)
  have kp : (al ≠ 0 ∨ hg_ww (N - i) (2 * i) = false) → wX_fromSingle_43 post (wX_fromSingle_7 post (nI al) (nI N) n) (nI al) (nI N) (nI i) f h m := by
    intro hq
    exact hg_keep hs (by omega) (by omega) (fun f' m' h' => nm_r (nI_1 i) (hw (f', m') ⟨by omega, hg_turn _ h' (by omega) (fun v => ⟨fun w => ⟨i1, z, y, hq, w⟩, fun w => w.2.2.2.2⟩)⟩))
  have e : 2 * nI i = nI (2 * i) := pk_mul 2 i
  rw [pk_sub z, e]
  refine hg_with (by omega) (by omega) (fun t => ?_) (fun t => ?_)
  · refine pk_eq al 0 (fun x => br_f (by decide) (nm_r (nI_1 i) (hw (f, m) ⟨by omega, hg_skip hs (by omega) (fun v w => ?_)⟩))) (fun x => kp (Or.inl x))
    rcases w.2.2.2.1 with q | q
    · exact q x
    · rw [t] at q
      exact absurd q (by decide)
  · exact pk_eq al 0 (fun x => br_t rfl (kp (Or.inr t))) (fun x => kp (Or.inl x))
end
end
section
section
variable {post : St1 → Prop} {P : Nat → Prop} {k al : Nat} {f : Int32} {h m : Nat → Int32}
/-! fromTwo -/
theorem hg_grid {E : Nat → Nat → Nat → Prop} {p q v : Nat} : hg_U (fun t v => E (t % p) (t / p) v) (p * q) v ↔ ∃ l r, l < p ∧ r < q ∧ E l r v := by
  constructor
  · rintro ⟨t, ht, e⟩
    have hp : 0 < p := by
      rcases Nat.eq_zero_or_pos p with z | z
      · rw [z, Nat.zero_mul] at ht
        omega
      · exact z
    exact ⟨t % p, t / p, Nat.mod_lt _ hp, Nat.div_lt_of_lt_mul ht, e⟩
  · rintro ⟨l, r, hl, hr, e⟩
    have hp : 0 < p := by omega
    have e1 : (l + p * r) % p = l := by rw [Nat.add_mul_mod_self_left, Nat.mod_eq_of_lt hl]
    have e2 : (l + p * r) / p = r := by rw [Nat.add_mul_div_left _ _ hp, Nat.div_eq_of_lt hl, Nat.zero_add]
    have e3 : p * (r + 1) ≤ p * q := Nat.mul_le_mul_left p hr
    rw [Nat.mul_succ] at e3
    refine ⟨l + p * r, by omega, ?_⟩
    show E ((l + p * r) % p) ((l + p * r) / p) v
    rw [e1, e2]
    exact e
theorem hg_two25 {E : Nat → Nat → Nat → Prop} {i j p q : Nat} (hi : i < 3) (hj : j < 3) (ei : h i = nI p) (ej : h j = nI q) (lp : p < 16) (lq : q < 16) (hS : hg_S P k f m) (hk : k + 225 < 800)
    (C : ∀ (J : Int32 → Int32 → (Nat → Int32) → (Nat → Int32) → Prop) (Q : Nat → Prop) (k : Nat) (t l r : Nat) (f : Int32) (m : Nat → Int32), l < p → r < q → k < 800 → hg_S Q k f m → (∀ f' m', hg_S (fun v => Q v ∨ E l r v) (k + 1) f' m' → J (nI (t + 1)) f' h m') →
      ((nI i = 0 → (wX_fromTwo_81 post J (nI al) (nI i) (nI j) (nI t) (nI l) (nI r) (nI l) f h m)) ∧ (¬ nI i = 0 → (wX_fromTwo_81 post J (nI al) (nI i) (nI j) (nI t) (nI l) (nI r) (h 0) f h m))))
    (H : ∀ f' m', hg_S (fun v => P v ∨ ∃ l r, l < p ∧ r < q ∧ E l r v) (k + 225) f' m' → post (f', h, m')) : ∃ n, wX_fromTwo_25 post (nI al) (nI i) (nI j) n 0 f h m := by
  have le : p * q ≤ 15 * 15 := Nat.mul_le_mul (by omega) (by omega)
  have em : h i * h j = nI (p * q) := by rw [ei, ej, pk_mul]
  refine pk_loop (fun n t s => wX_fromTwo_25 post (nI al) (nI i) (nI j) n (nI t) s.1 h s.2) (fun t s => hg_S (fun v => P v ∨ hg_U (fun t v => E (t % p) (t / p) v) t v) (k + t) s.1 s.2) (p * q) 0 (f, m) (by omega) (hg_start hS (hg_U_0 _))
    (fun n s hs => ?_) ?_
  · refine ⟨pk_in i 3 hi, pk_in j 3 hj, ?_⟩
    rw [nI_clamp (n := i) (by omega), nI_clamp (n := j) (by omega)]
    exact pk_le (p * q) (p * q) (fun _ => H _ _ (hg_S_cg hs (by omega) (fun v => or_congr Iff.rfl hg_grid))) (fun z => absurd z (by omega)) em
  intro n t s ht hs hw
  obtain ⟨f, m⟩ := s
  dsimp only at hs hw ⊢
  have hp : 0 < p := by
    rcases Nat.eq_zero_or_pos p with z | z
    · rw [z, Nat.zero_mul] at ht
      omega
    · exact z
  refine ⟨pk_in i 3 hi, pk_in j 3 hj, ?_⟩
  rw [nI_clamp (n := i) (by omega), nI_clamp (n := j) (by omega)]
  refine pk_le (p * q) t (fun z => absurd z (by omega)) (fun _ => ⟨pk_in i 3 hi, ?_⟩) em
  rw [ei]
  refine ⟨nI_ne0 hp (by omega), nm_r (pk_rem (by omega) hp (by omega)) ⟨pk_in i 3 hi, nI_ne0 hp (by omega), nm_r (pk_div (by omega) hp (by omega)) ?_⟩⟩
  exact C _ _ (k + t) t (t % p) (t / p) f m (Nat.mod_lt _ hp) (Nat.div_lt_of_lt_mul ht) (by omega) hs (fun f' m' h' => hw (f', m') (hg_turn _ h' (by omega) (fun v => Iff.rfl)))
theorem hg_two0 {a b c : Nat} (hH : hg_H a b c h) (hS : hg_S P k f m) (hk : k + 225 < 800) (hal : al < 2)
    (H : ∀ f' m', hg_S (fun v => P v ∨ ∃ l r, l < b ∧ r < c ∧ hg_k al 2 a l r v) (k + 225) f' m' → post (f', h, m')) : wpX_fromTwo post (f, h, m) 0 (nI al) := by
  obtain ⟨e0, e1, e2, l0, l1, l2⟩ := hH
  refine br_t rfl (br_f (by decide) (hg_two25 (i := 1) (j := 2) (E := fun l r v => hg_k al 2 a l r v) (by omega) (by omega) e1 e2 l1 l2 hS hk ?_ H))
  intro J Q k t l r f m hl hr hk hs hw
  refine br_f (by decide) (br_t rfl (br_t rfl ?_))
  unfold wX_fromTwo_129
  rw [e0]
  exact hg_cons (g := 2) hs hk (by omega) (by omega) (by omega) (by omega) hal (fun f' m' h' => nm_r (nI_1 t) (hw f' m' h'))
theorem hg_two1 {a b c : Nat} (hH : hg_H a b c h) (hS : hg_S P k f m) (hk : k + 225 < 800) (hal : al < 2)
    (H : ∀ f' m', hg_S (fun v => P v ∨ ∃ l r, l < a ∧ r < c ∧ hg_k al 2 l b r v) (k + 225) f' m' → post (f', h, m')) : wpX_fromTwo post (f, h, m) 1 (nI al) := by
  obtain ⟨e0, e1, e2, l0, l1, l2⟩ := hH
  refine br_f (by decide) (br_f (by decide) (hg_two25 (i := 0) (j := 2) (E := fun l r v => hg_k al 2 l b r v) (by omega) (by omega) e0 e2 l0 l2 hS hk ?_ H))
  intro J Q k t l r f m hl hr hk hs hw
  refine br_t rfl (br_f (by decide) (br_f (by decide) (br_t rfl ?_)))
  unfold wX_fromTwo_129
  rw [e1]
  exact hg_cons (g := 2) hs hk (by omega) (by omega) (by omega) (by omega) hal (fun f' m' h' => nm_r (nI_1 t) (hw f' m' h'))
theorem hg_two2 {a b c : Nat} (hH : hg_H a b c h) (hS : hg_S P k f m) (hk : k + 225 < 800) (hal : al < 2)
    (H : ∀ f' m', hg_S (fun v => P v ∨ ∃ l r, l < a ∧ r < b ∧ hg_k al 2 l r c v) (k + 225) f' m' → post (f', h, m')) : wpX_fromTwo post (f, h, m) 2 (nI al) := by
  obtain ⟨e0, e1, e2, l0, l1, l2⟩ := hH
  refine br_f (by decide) (br_t rfl (hg_two25 (i := 0) (j := 1) (E := fun l r v => hg_k al 2 l r c v) (by omega) (by omega) e0 e1 l0 l1 hS hk ?_ H))
  intro J Q k t l r f m hl hr hk hs hw
  refine br_t rfl (br_f (by decide) (br_t rfl (br_f (by decide) ?_)))
  unfold wX_fromTwo_129
  rw [e2]
  exact hg_cons (g := 2) hs hk (by omega) (by omega) (by omega) (by omega) hal (fun f' m' h' => nm_r (nI_1 t) (hw f' m' h'))
/-! findMoves -/
def hg_M (al g a b c v : Nat) : Prop :=
  match g with
  | 2 => ((hg_U (hg_fo 2 15 al a b c) 48 v ∨ ∃ l r, l < b ∧ r < c ∧ hg_k al 2 a l r v) ∨ ∃ l r, l < a ∧ r < c ∧ hg_k al 2 l b r v) ∨ ∃ l r, l < a ∧ r < b ∧ hg_k al 2 l r c v
  | 3 => hg_U (hg_ds al a b c) 16 v
  | 4 => hg_U (hg_fo 4 15 al a b c) 48 v ∨ hg_U (hg_em al a b c) 16 v
  | 5 => hg_U (hg_mu al a b c) 16 v
  | 6 => hg_U (hg_fs al (hg_sg a b) c) 16 v
  | 7 => hg_U (hg_fo 7 3 al a b c) 48 v
  | 0 => hg_U (hg_fo 0 15 al a b c) 48 v
  | _ => hg_U (hg_fo 1 15 al a b c) 48 v
theorem hg_S_F {Q : Nat → Prop} {k k' : Nat} {f : Int32} {m : Nat → Int32} (hs : hg_S (fun v => False ∨ Q v) k f m) (hk : k ≤ k') : hg_S Q k' f m := hg_S_cg hs hk (fun v => ⟨fun w => w.elim False.elim id, Or.inr⟩)
theorem hg_find {g a b c : Nat} (hH : hg_H a b c h) (hg : g < 8) (hal : al < 2) (H : ∀ f' m', hg_S (hg_M al g a b c) 799 f' m' → post (f', h, m')) : wpX_findMoves post (f, h, m) (nI g) (nI al) := by
  rcases (show g = 0 ∨ g = 1 ∨ g = 2 ∨ g = 3 ∨ g = 4 ∨ g = 5 ∨ g = 6 ∨ g = 7 by omega) with rfl | rfl | rfl | rfl | rfl | rfl | rfl | rfl
  · refine br_f (by decide) (br_f (by decide) (br_f (by decide) (br_f (by decide) ?_)))
    exact hg_fromOne (ms := 15) hH (hg_S_0 m) (by omega) (by omega) (by omega) hal (fun f' m' h' => br_f (by decide) (br_f (by decide) (H _ _ (hg_S_F h' (by omega)))))
  · refine br_f (by decide) (br_f (by decide) (br_f (by decide) (br_f (by decide) ?_)))
    exact hg_fromOne (ms := 15) hH (hg_S_0 m) (by omega) (by omega) (by omega) hal (fun f' m' h' => br_f (by decide) (br_f (by decide) (H _ _ (hg_S_F h' (by omega)))))
  · refine br_f (by decide) (br_f (by decide) (br_f (by decide) (br_f (by decide) ?_)))
    refine hg_fromOne (ms := 15) hH (hg_S_0 m) (by omega) (by omega) (by omega) hal (fun f1 m1 h1 => br_t rfl ?_)
    refine hg_two0 hH (hg_S_F h1 (Nat.le_refl _)) (by omega) hal (fun f2 m2 h2 => ?_)
    refine hg_two1 hH h2 (by omega) hal (fun f3 m3 h3 => ?_)
    refine hg_two2 hH h3 (by omega) hal (fun f4 m4 h4 => br_f (by decide) (H _ _ (hg_S_cg h4 (by omega) (fun v => Iff.rfl))))
  · exact br_t rfl (hg_stairs hH (hg_S_0 m) (by omega) hal (fun f' m' h' => br_f (by decide) (br_f (by decide) (H _ _ (hg_S_F h' (by omega))))))
  · refine br_f (by decide) (br_f (by decide) (br_f (by decide) (br_f (by decide) ?_)))
    refine hg_fromOne (ms := 15) hH (hg_S_0 m) (by omega) (by omega) (by omega) hal (fun f1 m1 h1 => br_f (by decide) (br_t rfl ?_))
    exact hg_equally hH (hg_S_F h1 (Nat.le_refl _)) (by omega) hal (fun f' m' h' => H _ _ (hg_S_cg h' (by omega) (fun v => Iff.rfl)))
  · exact br_f (by decide) (br_t rfl (hg_multiples hH (hg_S_0 m) (by omega) hal (fun f' m' h' => br_f (by decide) (br_f (by decide) (H _ _ (hg_S_F h' (by omega)))))))
  · exact br_f (by decide) (br_f (by decide) (br_t rfl (hg_single1 hH (hg_S_0 m) (by omega) hal (fun f' m' h' => br_f (by decide) (br_f (by decide) (H _ _ (hg_S_F h' (by omega))))))))
  · refine br_f (by decide) (br_f (by decide) (br_f (by decide) (br_t rfl ?_)))
    exact hg_fromOne (ms := 3) hH (hg_S_0 m) (by omega) (by omega) (by omega) hal (fun f' m' h' => br_f (by decide) (br_f (by decide) (H _ _ (hg_S_F h' (by omega)))))
end
end
section
/-! ===== the games: no program in sight ===== -/
theorem hg_U_mono {E E' : Nat → Nat → Prop} (h : ∀ j v, E j v → E' j v) {i v : Nat} (w : hg_U E i v) : hg_U E' i v := by
  obtain ⟨j, hj, e⟩ := w
  exact ⟨j, hj, h j v e⟩
theorem hg_k_mono {g a b c v : Nat} (w : hg_k 0 g a b c v) : hg_k 1 g a b c v := ⟨Or.inl (by decide), w.2⟩
theorem hg_fo_mono {g ms a b c j v : Nat} (w : hg_fo g ms 0 a b c j v) : hg_fo g ms 1 a b c j v := by
  obtain ⟨w1, w2, w | w | w⟩ := w
  · exact ⟨w1, w2, Or.inl ⟨w.1, w.2.1, hg_k_mono w.2.2⟩⟩
  · exact ⟨w1, w2, Or.inr (Or.inl ⟨w.1, w.2.1, hg_k_mono w.2.2⟩)⟩
  · exact ⟨w1, w2, Or.inr (Or.inr ⟨w.1, w.2.1, hg_k_mono w.2.2⟩)⟩
theorem hg_foU {g ms a b c i v : Nat} (w : hg_U (hg_fo g ms 0 a b c) i v) : hg_U (hg_fo g ms 1 a b c) i v := hg_U_mono (E := hg_fo g ms 0 a b c) (E' := hg_fo g ms 1 a b c) (fun j v e => hg_fo_mono e) w
theorem hg_M_mono {g a b c v : Nat} (hg : g < 8) (w : hg_M 0 g a b c v) : hg_M 1 g a b c v := by
  rcases (show g = 0 ∨ g = 1 ∨ g = 2 ∨ g = 3 ∨ g = 4 ∨ g = 5 ∨ g = 6 ∨ g = 7 by omega) with rfl | rfl | rfl | rfl | rfl | rfl | rfl | rfl
  · exact hg_foU w
  · exact hg_foU w
  · rcases w with ((w | ⟨l, r, hl, hr, w⟩) | ⟨l, r, hl, hr, w⟩) | ⟨l, r, hl, hr, w⟩
    · exact Or.inl (Or.inl (Or.inl (hg_foU w)))
    · exact Or.inl (Or.inl (Or.inr ⟨l, r, hl, hr, hg_k_mono w⟩))
    · exact Or.inl (Or.inr ⟨l, r, hl, hr, hg_k_mono w⟩)
    · exact Or.inr ⟨l, r, hl, hr, hg_k_mono w⟩
  · refine hg_U_mono (E := hg_ds 0 a b c) (E' := hg_ds 1 a b c) (fun j v u => ?_) w
    obtain ⟨u1, u | u | u⟩ := u
    · exact ⟨u1, Or.inl ⟨u.1, hg_k_mono u.2⟩⟩
    · exact ⟨u1, Or.inr (Or.inl ⟨u.1, hg_k_mono u.2⟩)⟩
    · exact ⟨u1, Or.inr (Or.inr ⟨u.1, hg_k_mono u.2⟩)⟩
  · rcases w with w | w
    · exact Or.inl (hg_foU w)
    · exact Or.inr (hg_U_mono (E := hg_em 0 a b c) (E' := hg_em 1 a b c) (fun j v u => ⟨u.1, u.2.1, u.2.2.1, hg_k_mono u.2.2.2⟩) w)
  · refine hg_U_mono (E := hg_mu 0 a b c) (E' := hg_mu 1 a b c) (fun j v u => ?_) w
    obtain ⟨u1, u | u⟩ := u
    · exact ⟨u1, Or.inl ⟨u.1, hg_k_mono u.2⟩⟩
    · exact ⟨u1, Or.inr ⟨u.1, hg_k_mono u.2⟩⟩
  · exact hg_U_mono (E := hg_fs 0 (hg_sg a b) c) (E' := hg_fs 1 (hg_sg a b) c) (fun j v u => ⟨u.1, u.2.1, u.2.2.1, Or.inl (by decide), u.2.2.2.2⟩) w
  · exact hg_foU w
/-- from one heap, without the loop's counter -/
theorem hg_one {g ms al a b c v : Nat} (hms : ms < 16) : hg_U (hg_fo g ms al a b c) 48 v ↔ (∃ q, 1 ≤ q ∧ q ≤ ms ∧ q ≤ a ∧ hg_k al g (a - q) b c v) ∨ (∃ q, 1 ≤ q ∧ q ≤ ms ∧ q ≤ b ∧ hg_k al g a (b - q) c v) ∨ (g ≠ 4 ∧ ∃ q, 1 ≤ q ∧ q ≤ ms ∧ q ≤ c ∧ hg_k al g a b (c - q) v) := by
  constructor
  · rintro ⟨j, hj, c1, c2, w | w | w⟩
    · exact Or.inl ⟨j / 3 + 1, by omega, c2, w.2.1, w.2.2⟩
    · exact Or.inr (Or.inl ⟨j / 3 + 1, by omega, c2, w.2.1, w.2.2⟩)
    · exact Or.inr (Or.inr ⟨by omega, j / 3 + 1, by omega, c2, w.2.1, w.2.2⟩)
  · rintro (⟨q, h1, h2, h3, w⟩ | ⟨q, h1, h2, h3, w⟩ | ⟨h0, q, h1, h2, h3, w⟩)
    · refine ⟨3 * (q - 1), by omega, ?_⟩
      unfold hg_fo
      rw [show 3 * (q - 1) % 3 = 0 by omega, show 3 * (q - 1) / 3 + 1 = q by omega]
      exact ⟨Or.inl (by omega), h2, Or.inl ⟨rfl, h3, w⟩⟩
    · refine ⟨3 * (q - 1) + 1, by omega, ?_⟩
      unfold hg_fo
      rw [show (3 * (q - 1) + 1) % 3 = 1 by omega, show (3 * (q - 1) + 1) / 3 + 1 = q by omega]
      exact ⟨Or.inl (by omega), h2, Or.inr (Or.inl ⟨rfl, h3, w⟩)⟩
    · refine ⟨3 * (q - 1) + 2, by omega, ?_⟩
      unfold hg_fo
      rw [show (3 * (q - 1) + 2) % 3 = 2 by omega, show (3 * (q - 1) + 2) / 3 + 1 = q by omega]
      exact ⟨Or.inr h0, h2, Or.inr (Or.inr ⟨rfl, h3, w⟩)⟩
theorem hg_k0 {g a b c v : Nat} (w : hg_k 0 g a b c v) : hg_won g a b c = false := by
  rcases w.1 with q | q
  · exact absurd rfl q
  · exact q
theorem hg_k1 {g a b c : Nat} (w : hg_won g a b c = false) : hg_k 0 g a b c (a + 32 * b + 1024 * c) := ⟨Or.inr w, rfl⟩
def hg_X (g ms a b c : Nat) : Prop := (∃ q, 1 ≤ q ∧ q ≤ ms ∧ q ≤ a ∧ hg_won g (a - q) b c = false) ∨ (∃ q, 1 ≤ q ∧ q ≤ ms ∧ q ≤ b ∧ hg_won g a (b - q) c = false) ∨ (g ≠ 4 ∧ ∃ q, 1 ≤ q ∧ q ≤ ms ∧ q ≤ c ∧ hg_won g a b (c - q) = false)
theorem hg_oneX {g ms a b c : Nat} (hms : ms < 16) : (∃ v, hg_U (hg_fo g ms 0 a b c) 48 v) ↔ hg_X g ms a b c := by
  constructor
  · rintro ⟨v, w⟩
    rcases (hg_one hms).mp w with ⟨q, h1, h2, h3, w⟩ | ⟨q, h1, h2, h3, w⟩ | ⟨h0, q, h1, h2, h3, w⟩
    · exact Or.inl ⟨q, h1, h2, h3, hg_k0 w⟩
    · exact Or.inr (Or.inl ⟨q, h1, h2, h3, hg_k0 w⟩)
    · exact Or.inr (Or.inr ⟨h0, q, h1, h2, h3, hg_k0 w⟩)
  · rintro (⟨q, h1, h2, h3, w⟩ | ⟨q, h1, h2, h3, w⟩ | ⟨h0, q, h1, h2, h3, w⟩)
    · exact ⟨_, (hg_one hms).mpr (Or.inl ⟨q, h1, h2, h3, hg_k1 w⟩)⟩
    · exact ⟨_, (hg_one hms).mpr (Or.inr (Or.inl ⟨q, h1, h2, h3, hg_k1 w⟩))⟩
    · exact ⟨_, (hg_one hms).mpr (Or.inr (Or.inr ⟨h0, q, h1, h2, h3, hg_k1 w⟩))⟩
/-- what a third heap must be, for a lost position -/
def hg_l0 (b c : Nat) : Nat := b ^^^ c
def hg_l1 (b c : Nat) : Nat := if b < 2 ∧ c < 2 then 1 ^^^ b ^^^ c else b ^^^ c
theorem hg_L0 : ∀ a, a < 16 → ∀ b, b < 16 → ∀ c, c < 16 → (hg_won 0 a b c = false ↔ a = hg_l0 b c) ∧ (hg_won 0 a b c = false ↔ b = hg_l0 a c) ∧ (hg_won 0 a b c = false ↔ c = hg_l0 a b) := by decide +kernel
theorem hg_L1 : ∀ a, a < 16 → ∀ b, b < 16 → ∀ c, c < 16 → (hg_won 1 a b c = false ↔ a = hg_l1 b c) ∧ (hg_won 1 a b c = false ↔ b = hg_l1 a c) ∧ (hg_won 1 a b c = false ↔ c = hg_l1 a b) := by decide +kernel
theorem hg_E0 : ∀ a, a < 16 → ∀ b, b < 16 → ∀ c, c < 16 → hg_won 0 a b c = true → hg_l0 b c < a ∨ hg_l0 a c < b ∨ hg_l0 a b < c := by decide +kernel
def hg_e1 (a b c : Nat) : Bool := decide (a + b + c = 0 ∨ hg_won 1 a b c = false ∨ hg_l1 b c < a ∨ hg_l1 a c < b ∨ hg_l1 a b < c)
theorem hg_E1b : ∀ a, a < 16 → ∀ b, b < 16 → ∀ c, c < 16 → hg_e1 a b c = true := by decide +kernel
theorem hg_E1 {a b c : Nat} (ha : a < 16) (hb : b < 16) (hc : c < 16) (h0 : ¬ a + b + c = 0) (h1 : hg_won 1 a b c = true) : hg_l1 b c < a ∨ hg_l1 a c < b ∨ hg_l1 a b < c := by
  rcases of_decide_eq_true (hg_E1b a ha b hb c hc) with z | z | z
  · exact absurd z h0
  · rw [h1] at z
    exact absurd z (by decide)
  · exact z
theorem hg_G {g a b c : Nat} (L : Nat → Nat → Nat) (g4 : g ≠ 4) (hL : ∀ a, a < 16 → ∀ b, b < 16 → ∀ c, c < 16 → (hg_won g a b c = false ↔ a = L b c) ∧ (hg_won g a b c = false ↔ b = L a c) ∧ (hg_won g a b c = false ↔ c = L a b))
    (ha : a < 16) (hb : b < 16) (hc : c < 16) (hE : hg_won g a b c = true → L b c < a ∨ L a c < b ∨ L a b < c) : hg_X g 15 a b c ↔ hg_won g a b c = true := by
  constructor
  · intro w
    cases e : hg_won g a b c with
    | true => rfl
    | false =>
      obtain ⟨t1, t2, t3⟩ := hL a ha b hb c hc
      have t1 := t1.mp e
      have t2 := t2.mp e
      have t3 := t3.mp e
      rcases w with ⟨q, h1, h2, h3, w⟩ | ⟨q, h1, h2, h3, w⟩ | ⟨h0, q, h1, h2, h3, w⟩
      · have := (hL (a - q) (by omega) b hb c hc).1.mp w
        omega
      · have := (hL a ha (b - q) (by omega) c hc).2.1.mp w
        omega
      · have := (hL a ha b hb (c - q) (by omega)).2.2.mp w
        omega
  · intro w
    rcases hE w with z | z | z
    · refine Or.inl ⟨a - L b c, by omega, by omega, by omega, ?_⟩
      rw [show a - (a - L b c) = L b c by omega]
      exact (hL (L b c) (by omega) b hb c hc).1.mpr rfl
    · refine Or.inr (Or.inl ⟨b - L a c, by omega, by omega, by omega, ?_⟩)
      rw [show b - (b - L a c) = L a c by omega]
      exact (hL a ha (L a c) (by omega) c hc).2.1.mpr rfl
    · refine Or.inr (Or.inr ⟨g4, c - L a b, by omega, by omega, by omega, ?_⟩)
      rw [show c - (c - L a b) = L a b by omega]
      exact (hL a ha b hb (L a b) (by omega)).2.2.mpr rfl
def hg_an (a : Nat) (F : Nat → Bool) : Bool := [1, 2, 3].any (fun q => decide (q ≤ a) && !F q)
theorem hg_any {a : Nat} {F : Nat → Bool} : hg_an a F = true ↔ ∃ q, 1 ≤ q ∧ q ≤ 3 ∧ q ≤ a ∧ F q = false := by
  rw [hg_an, List.any_eq_true]
  constructor
  · rintro ⟨q, hq, h⟩
    rw [Bool.and_eq_true, decide_eq_true_iff, Bool.not_eq_true'] at h
    have : q = 1 ∨ q = 2 ∨ q = 3 := by simpa using hq
    exact ⟨q, by omega, by omega, h.1, h.2⟩
  · rintro ⟨q, h1, h2, h3, h4⟩
    have : q = 1 ∨ q = 2 ∨ q = 3 := by omega
    refine ⟨q, by simpa using this, ?_⟩
    rw [Bool.and_eq_true, decide_eq_true_iff, Bool.not_eq_true']
    exact ⟨h3, h4⟩
def hg_d7 (a b c : Nat) : Bool := hg_an a (fun q => hg_won 7 (a - q) b c) || (hg_an b (fun q => hg_won 7 a (b - q) c) || hg_an c (fun q => hg_won 7 a b (c - q)))
theorem hg_D7 : ∀ a, a < 16 → ∀ b, b < 16 → ∀ c, c < 16 → hg_d7 a b c = hg_won 7 a b c := by decide +kernel
theorem hg_D4 : ∀ a, a < 16 → ∀ b, b < 16 → (((∃ q, q < 16 ∧ 1 ≤ q ∧ q ≤ a ∧ hg_w4 (a - q) b = false) ∨ (∃ q, q < 16 ∧ 1 ≤ q ∧ q ≤ b ∧ hg_w4 a (b - q) = false) ∨ (∃ q, q < 16 ∧ 1 ≤ q ∧ q ≤ a ∧ q ≤ b ∧ hg_w4 (a - q) (b - q) = false)) ↔ hg_w4 a b = true) := by decide +kernel
theorem hg_D5 : ∀ a, a < 16 → ∀ b, b < 16 → ((∃ j, j < 16 ∧ (1 ≤ j ∧ 0 < a ∧ 0 < b) ∧ ((j * b ≤ a ∧ hg_w5 (a - j * b) b = false) ∨ (j * a ≤ b ∧ hg_w5 a (b - j * a) = false))) ↔ hg_w5 a b = true) := by decide +kernel
theorem hg_D6 : ∀ n, n < 61 → ∀ c, c < 16 → ((∃ j, j < 16 ∧ 1 ≤ j ∧ j ≤ n ∧ j ≤ c ∧ hg_ww (n - j) (2 * j) = false) ↔ hg_ww n c = true) := by decide +kernel
theorem hg_G7 {a b c : Nat} (ha : a < 16) (hb : b < 16) (hc : c < 16) : hg_X 7 3 a b c ↔ hg_won 7 a b c = true := by
  rw [← hg_D7 a ha b hb c hc, hg_d7, Bool.or_eq_true, Bool.or_eq_true, hg_any, hg_any, hg_any]
  exact or_congr Iff.rfl (or_congr Iff.rfl ⟨fun w => w.2, fun w => ⟨by decide, w⟩⟩)
theorem hg_G4 {a b c : Nat} (ha : a < 16) (hb : b < 16) : (∃ v, hg_M 0 4 a b c v) ↔ hg_won 4 a b c = true := by
  refine Iff.trans ?_ (hg_D4 a ha b hb)
  constructor
  · rintro ⟨v, w | ⟨j, hj, w⟩⟩
    · rcases (hg_oneX (by omega)).mp ⟨v, w⟩ with ⟨q, h1, h2, h3, w⟩ | ⟨q, h1, h2, h3, w⟩ | ⟨h0, _⟩
      · exact Or.inl ⟨q, by omega, h1, h3, w⟩
      · exact Or.inr (Or.inl ⟨q, by omega, h1, h3, w⟩)
      · exact absurd rfl h0
    · exact Or.inr (Or.inr ⟨j, hj, w.1, w.2.1, w.2.2.1, hg_k0 w.2.2.2⟩)
  · rintro (⟨q, h1, h2, h3, w⟩ | ⟨q, h1, h2, h3, w⟩ | ⟨q, h1, h2, h3, h4, w⟩)
    · obtain ⟨v, u⟩ := (hg_oneX (g := 4) (ms := 15) (a := a) (b := b) (c := c) (by omega)).mpr (Or.inl ⟨q, h2, by omega, h3, w⟩)
      exact ⟨v, Or.inl u⟩
    · obtain ⟨v, u⟩ := (hg_oneX (g := 4) (ms := 15) (a := a) (b := b) (c := c) (by omega)).mpr (Or.inr (Or.inl ⟨q, h2, by omega, h3, w⟩))
      exact ⟨v, Or.inl u⟩
    · exact ⟨_, Or.inr ⟨q, h1, h2, h3, h4, hg_k1 (g := 4) (c := c) w⟩⟩
theorem hg_G5 {a b c : Nat} (ha : a < 16) (hb : b < 16) : (∃ v, hg_M 0 5 a b c v) ↔ hg_won 5 a b c = true := by
  refine Iff.trans ?_ (hg_D5 a ha b hb)
  constructor
  · rintro ⟨v, j, hj, h1, w | w⟩
    · exact ⟨j, hj, h1, Or.inl ⟨w.1, hg_k0 w.2⟩⟩
    · exact ⟨j, hj, h1, Or.inr ⟨w.1, hg_k0 w.2⟩⟩
  · rintro ⟨j, hj, h1, w | w⟩
    · exact ⟨_, j, hj, h1, Or.inl ⟨w.1, hg_k1 (g := 5) (c := c) w.2⟩⟩
    · exact ⟨_, j, hj, h1, Or.inr ⟨w.1, hg_k1 (g := 5) (c := c) w.2⟩⟩
theorem hg_G6 {a b c : Nat} (hc : c < 16) : (∃ v, hg_M 0 6 a b c v) ↔ hg_ww (hg_sg a b) c = true := by
  have ls := hg_sg_le a b
  refine Iff.trans ?_ (hg_D6 (hg_sg a b) (by omega) c hc)
  constructor
  · rintro ⟨v, j, hj, h1, h2, h3, w | w, _⟩
    · exact absurd rfl w
    · exact ⟨j, hj, h1, h2, h3, w⟩
  · rintro ⟨j, hj, h1, h2, h3, w⟩
    exact ⟨j, j, hj, h1, h2, h3, Or.inr w, rfl⟩
theorem hg_w3 {a b c : Nat} : hg_won 3 a b c = false ↔ a = c := by
  show decide (a ≠ c) = false ↔ a = c
  rw [decide_eq_false_iff_not]
  omega
theorem hg_w3t {a b c : Nat} : hg_won 3 a b c = true ↔ a ≠ c := by
  show decide (a ≠ c) = true ↔ a ≠ c
  rw [decide_eq_true_iff]
theorem hg_w2 {a b c : Nat} : hg_won 2 a b c = false ↔ a = b ∧ b = c := by
  show decide (¬ (a = b ∧ b = c)) = false ↔ a = b ∧ b = c
  rw [decide_eq_false_iff_not]
  omega
theorem hg_w2t {a b c : Nat} : hg_won 2 a b c = true ↔ ¬ (a = b ∧ b = c) := by
  show decide (¬ (a = b ∧ b = c)) = true ↔ _
  rw [decide_eq_true_iff]
theorem hg_G3 {a b c : Nat} (ha : a < 16) (hc : c < 16) : (∃ v, hg_M 0 3 a b c v) ↔ hg_won 3 a b c = true := by
  rw [hg_w3t]
  constructor
  · rintro ⟨v, j, hj, h1, w | w | w⟩
    · have := hg_w3.mp (hg_k0 w.2)
      have := w.1
      omega
    · have := hg_w3.mp (hg_k0 w.2)
      omega
    · have := hg_w3.mp (hg_k0 w.2)
      have := w.1
      omega
  · intro z
    rcases Nat.lt_or_ge a c with y | y
    · exact ⟨_, c - a, by omega, by omega, Or.inr (Or.inr ⟨by omega, hg_k1 (hg_w3.mpr (by omega))⟩)⟩
    · exact ⟨_, a - c, by omega, by omega, Or.inl ⟨by omega, hg_k1 (hg_w3.mpr (by omega))⟩⟩
theorem hg_G2 {a b c : Nat} (ha : a < 16) (hb : b < 16) (hc : c < 16) : (∃ v, hg_M 0 2 a b c v) ↔ hg_won 2 a b c = true := by
  rw [hg_w2t]
  constructor
  · rintro ⟨v, ((w | ⟨l, r, hl, hr, w⟩) | ⟨l, r, hl, hr, w⟩) | ⟨l, r, hl, hr, w⟩⟩
    · rcases (hg_oneX (by omega)).mp ⟨v, w⟩ with ⟨q, h1, h2, h3, w⟩ | ⟨q, h1, h2, h3, w⟩ | ⟨h0, q, h1, h2, h3, w⟩
      · have := hg_w2.mp w
        omega
      · have := hg_w2.mp w
        omega
      · have := hg_w2.mp w
        omega
    · have := hg_w2.mp (hg_k0 w)
      omega
    · have := hg_w2.mp (hg_k0 w)
      omega
    · have := hg_w2.mp (hg_k0 w)
      omega
  · intro z
    have one : hg_X 2 15 a b c → ∃ v, hg_M 0 2 a b c v := by
      intro u
      obtain ⟨v, u⟩ := (hg_oneX (by omega)).mpr u
      exact ⟨v, Or.inl (Or.inl (Or.inl u))⟩
    by_cases y1 : b = c
    · rcases Nat.lt_or_ge b a with y | y
      · exact one (Or.inl ⟨a - b, by omega, by omega, by omega, hg_w2.mpr (by omega)⟩)
      · exact ⟨_, Or.inl (Or.inl (Or.inr ⟨a, a, by omega, by omega, hg_k1 (hg_w2.mpr (by omega))⟩))⟩
    by_cases y2 : a = c
    · rcases Nat.lt_or_ge a b with y | y
      · exact one (Or.inr (Or.inl ⟨b - a, by omega, by omega, by omega, hg_w2.mpr (by omega)⟩))
      · exact ⟨_, Or.inl (Or.inr ⟨b, b, by omega, by omega, hg_k1 (hg_w2.mpr (by omega))⟩)⟩
    by_cases y3 : a = b
    · rcases Nat.lt_or_ge a c with y | y
      · exact one (Or.inr (Or.inr ⟨by decide, c - a, by omega, by omega, by omega, hg_w2.mpr (by omega)⟩))
      · exact ⟨_, Or.inr ⟨c, c, by omega, by omega, hg_k1 (hg_w2.mpr (by omega))⟩⟩
    rcases (show (a < b ∧ a < c) ∨ (b < a ∧ b < c) ∨ (c < a ∧ c < b) by omega) with y | y | y
    · exact ⟨_, Or.inl (Or.inl (Or.inr ⟨a, a, by omega, by omega, hg_k1 (hg_w2.mpr (by omega))⟩))⟩
    · exact ⟨_, Or.inl (Or.inr ⟨b, b, by omega, by omega, hg_k1 (hg_w2.mpr (by omega))⟩)⟩
    · exact ⟨_, Or.inr ⟨c, c, by omega, by omega, hg_k1 (hg_w2.mpr (by omega))⟩⟩
/-- a winning move is there just where the class says 'won' -/
theorem hg_F2 {g a b c : Nat} (hg : g < 8) (ha : a < 16) (hb : b < 16) (hc : c < 16) (h0 : ¬ (g = 1 ∧ a + b + c = 0)) : (∃ v, hg_M 0 g a b c v) ↔ hg_wn g a b c = true := by
  rcases (show g = 0 ∨ g = 1 ∨ g = 2 ∨ g = 3 ∨ g = 4 ∨ g = 5 ∨ g = 6 ∨ g = 7 by omega) with rfl | rfl | rfl | rfl | rfl | rfl | rfl | rfl
  · exact (hg_oneX (by omega)).trans (hg_G hg_l0 (by decide) hg_L0 ha hb hc (hg_E0 a ha b hb c hc))
  · exact (hg_oneX (by omega)).trans (hg_G hg_l1 (by decide) hg_L1 ha hb hc (hg_E1 ha hb hc (fun z => h0 ⟨rfl, z⟩)))
  · exact hg_G2 ha hb hc
  · exact hg_G3 ha hc
  · exact hg_G4 ha hb
  · exact hg_G5 ha hb
  · exact hg_G6 hc
  · exact (hg_oneX (by omega)).trans (hg_G7 ha hb hc)
/-- no heaps, no moves -/
theorem hg_F3 {v : Nat} : ¬ hg_M 1 1 0 0 0 v := by
  intro w
  rcases (hg_one (g := 1) (ms := 15) (by omega)).mp w with ⟨q, h1, h2, h3, w⟩ | ⟨q, h1, h2, h3, w⟩ | ⟨h0, q, h1, h2, h3, w⟩
  · omega
  · omega
  · omega
/-- a winning move leads to a lost position of small heaps -/
theorem hg_F5 {g a b c v : Nat} (hg : g < 8) (g3 : g ≠ 3) (g6 : g ≠ 6) (ha : a < 16) (hb : b < 16) (hc : c < 16) (w : hg_M 0 g a b c v) : ∃ a' b' c', a' < 16 ∧ b' < 16 ∧ c' < 16 ∧ v = a' + 32 * b' + 1024 * c' ∧ hg_wn g a' b' c' = false := by
  have K : ∀ a' b' c', a' < 16 → b' < 16 → c' < 16 → hg_k 0 g a' b' c' v → ∃ a' b' c', a' < 16 ∧ b' < 16 ∧ c' < 16 ∧ v = a' + 32 * b' + 1024 * c' ∧ hg_wn g a' b' c' = false := by
    intro a' b' c' h1 h2 h3 u
    refine ⟨a', b', c', h1, h2, h3, u.2, ?_⟩
    rw [hg_wn, if_neg g6]
    exact hg_k0 u
  have one : ∀ ms, ms < 16 → hg_U (hg_fo g ms 0 a b c) 48 v → ∃ a' b' c', a' < 16 ∧ b' < 16 ∧ c' < 16 ∧ v = a' + 32 * b' + 1024 * c' ∧ hg_wn g a' b' c' = false := by
    intro ms hms u
    rcases (hg_one hms).mp u with ⟨q, h1, h2, h3, w⟩ | ⟨q, h1, h2, h3, w⟩ | ⟨h0, q, h1, h2, h3, w⟩
    · exact K _ _ _ (by omega) (by omega) (by omega) w
    · exact K _ _ _ (by omega) (by omega) (by omega) w
    · exact K _ _ _ (by omega) (by omega) (by omega) w
  rcases (show g = 0 ∨ g = 1 ∨ g = 2 ∨ g = 4 ∨ g = 5 ∨ g = 7 by omega) with rfl | rfl | rfl | rfl | rfl | rfl
  · exact one 15 (by omega) w
  · exact one 15 (by omega) w
  · rcases w with ((w | ⟨l, r, hl, hr, w⟩) | ⟨l, r, hl, hr, w⟩) | ⟨l, r, hl, hr, w⟩
    · exact one 15 (by omega) w
    · exact K _ _ _ (by omega) (by omega) (by omega) w
    · exact K _ _ _ (by omega) (by omega) (by omega) w
    · exact K _ _ _ (by omega) (by omega) (by omega) w
  · rcases w with w | ⟨j, hj, w⟩
    · exact one 15 (by omega) w
    · exact K _ _ _ (by omega) (by omega) (by omega) w.2.2.2
  · rcases w with ⟨j, hj, h1, w | w⟩
    · exact K _ _ _ (by omega) (by omega) (by omega) w.2
    · exact K _ _ _ (by omega) (by omega) (by omega) w.2
  · exact one 3 (by omega) w
end
section
/-! ===== the law's own methods ===== -/
section
variable {post : Int32 → St1 → Prop} {f : Int32} {h m : Nat → Int32} {g a b c : Nat}
theorem hg_winning (hH : hg_H a b c h) (hg : g < 8) (H : ∀ f' m', hg_S (hg_M 0 g a b c) 799 f' m' → post f' (f', h, m')) : wpX_winning post (f, h, m) (nI g) := by
  unfold wpX_winning
  dsimp only
  exact hg_bad hg (br_t rfl (hg_find (al := 0) hH hg (by omega) H))
theorem hg_moves (hH : hg_H a b c h) (hg : g < 8) (H : ∀ f' m', hg_S (hg_M 1 g a b c) 799 f' m' → post f' (f', h, m')) : wpX_moves post (f, h, m) (nI g) := by
  unfold wpX_moves
  dsimp only
  exact hg_bad hg (br_t rfl (hg_find (al := 1) hH hg (by omega) H))
theorem hg_wmove {n i : Nat} {t : Nat → Nat} {m0 : Nat → Int32} (hH : hg_H a b c h) (hg : g < 8) (hR : hg_R (hg_M 0 g a b c) n t m0) (hi : i < n) (H : ∀ f' m', post (nI (t i)) (f', h, m')) : wpX_winningMove post (f, h, m) (nI g) (nI i) := by
  unfold wpX_winningMove
  dsimp only
  refine hg_bad hg (br_t rfl (hg_find (al := 0) hH hg (by omega) (fun f' m' hs => ?_)))
  obtain ⟨n', t', hn', rfl, hR'⟩ := hs
  obtain ⟨e1, e2⟩ := hg_same hR hR'
  subst e1
  refine pk_lt i 0 (fun z => absurd z (by omega)) (fun _ => pk_lt i n (fun _ => ⟨pk_in i 800 (by omega), ?_⟩) (fun z => absurd z (by omega)))
  dsimp only
  rw [nI_clamp (n := i) (by omega), hR'.1 i hi, ← e2 i hi]
  exact H _ _
theorem hg_m1 {x : Nat} (hx : x < 1048576) : (-1 : Int32) < nI x := by
  rw [Int32.lt_iff_toInt_lt, nI_toInt (by omega)]
  have : (-1 : Int32).toInt = -1 := by decide
  omega
theorem hg_val {ps : Int32 → Prop} (hH : hg_H a b c h) (hg : g = 0 ∨ g = 7) (h1 : hg_wn g a b c = false → ps 0) (h2 : ∀ x, 0 < x → x < 32 → hg_wn g a b c = true → ps (nI x)) : wpX_value ps (f, h, m) (nI g) := by
  obtain ⟨e0, e1, e2, l0, l1, l2⟩ := hH
  obtain ⟨e, l⟩ := hg_xor (a := a) (b := b) (c := c) (by omega) (by omega) (by omega)
  have e' : (h 0 ^^^ h 1) ^^^ h 2 = nI (a ^^^ b ^^^ c) := by rw [e0, e1, e2, e]
  rcases hg with rfl | rfl
  · refine br_t rfl (nm_r e' (br_t rfl ?_))
    by_cases z : a ^^^ b ^^^ c = 0
    · rw [z]
      exact h1 (decide_eq_false (fun t => t z))
    · exact h2 _ (by omega) l (decide_eq_true z)
  · refine br_f (by decide) (br_t rfl (nm_r e' (br_f (by decide) ?_)))
    rw [hg_and3 l]
    by_cases z : (a ^^^ b ^^^ c) % 4 = 0
    · rw [z]
      exact h1 (decide_eq_false (fun t => t z))
    · exact h2 _ (by omega) (by omega) (decide_eq_true z)
theorem hg_149 {w : Nat} (hH : hg_H a b c h) (hg : g = 0 ∨ g = 7) (hw : (hg_wn g a b c = true ∧ w = 1) ∨ (hg_wn g a b c = false ∧ w = 0)) (H : post 1 (f, h, m)) : wL_wins_149 post (nI g) (nI w) f h m := by
  unfold wL_wins_149
  refine hg_val hH hg (fun t => br_t rfl ?_) (fun x x0 x1 t => br_f (nI_ne0 x0 (by omega)) ?_)
  · rcases hw with ⟨z, _⟩ | ⟨_, rfl⟩
    · rw [t] at z
      exact absurd z (by decide)
    · exact br_t rfl (br_t rfl H)
  · rcases hw with ⟨_, rfl⟩ | ⟨z, _⟩
    · exact br_f (by decide) (br_t rfl H)
    · rw [t] at z
      exact absurd z (by decide)
theorem hg_105 {w n : Nat} {t : Nat → Nat} {m0 : Nat → Int32} (hH : hg_H a b c h) (hg : g < 8) (hw : (hg_wn g a b c = true ∧ w = 1) ∨ (hg_wn g a b c = false ∧ w = 0)) (hR : hg_R (hg_M 0 g a b c) n t m0) (hn : n ≤ 799) (H : ∀ f m, post 1 (f, h, m)) : ∃ fu, wL_wins_105 post (nI g) (nI n) (nI w) fu (-1) 0 f h m := by
  refine pk_loop (σ := Int32 × Int32 × (Nat → Int32)) (fun k i s => wL_wins_105 post (nI g) (nI n) (nI w) k s.1 (nI i) s.2.1 h s.2.2) (fun i s => ∀ j, i ≤ j → j < n → s.1 < nI (t j)) n 0 (-1, f, m) (by omega) (fun j _ hj => hg_m1 (hR.2.1 j hj))
    (fun k s hs => pk_le n n (fun _ => pk_eq g 0 (fun z => hg_149 hH (Or.inl z) hw (H _ _)) (fun _ => pk_eq g 7 (fun z => hg_149 hH (Or.inr z) hw (H _ _)) (fun _ => H _ _))) (fun z => absurd z (by omega))) ?_
  intro k i s hi hs hk
  refine pk_le n i (fun z => absurd z (by omega)) (fun _ => hg_wmove hH hg hR hi (fun f' m' => br_t (hs i (Nat.le_refl i) hi) (nm_r (nI_1 i) (hk (nI (t i), f', m') (fun j hj hj2 => ?_)))))
  have := hR.2.1 j hj2
  exact nI_lt (hR.2.2.1 i j (by omega) hj2) (by omega)
theorem hg_wins (hH : hg_H a b c h) (hg : g < 8) (H : ∀ f m, post 1 (f, h, m)) : wpL_wins post (f, h, m) (nI g) := by
  have hH' := hH
  obtain ⟨e0, e1, e2, l0, l1, l2⟩ := hH'
  unfold wpL_wins
  dsimp only
  refine hg_winning hH hg (fun f1 m1 hs1 => ?_)
  obtain ⟨n, t, hn, rfl, hR⟩ := hs1
  refine hg_moves hH hg (fun f2 m2 hs2 => ?_)
  obtain ⟨n2, t2, hn2, rfl, hR2⟩ := hs2
  have le : n ≤ n2 := hg_le hR hR2 (fun v => hg_M_mono hg)
  have ex : 0 < n ↔ ∃ v, hg_M 0 g a b c v := by
    constructor
    · exact fun z => ⟨t 0, (hR.2.2.2 _).mpr ⟨0, z, rfl⟩⟩
    · rintro ⟨v, w⟩
      obtain ⟨j, hj, _⟩ := (hR.2.2.2 v).mp w
      omega
  have s77 : ∀ w : Nat, ((hg_wn g a b c = true ∧ w = 1) ∨ (hg_wn g a b c = false ∧ w = 0)) → ¬ (g = 1 ∧ a + b + c = 0) → wL_wins_77 post (nI g) (nI n) (nI w) (-1) (nI n2) h m2 := by
    intro w hw h0
    have lp := hg_105 (f := nI n2) (m := m2) hH hg hw hR hn H
    have F2 := ex.trans (hg_F2 hg l0 l1 l2 h0)
    rcases hw with ⟨z, rfl⟩ | ⟨z, rfl⟩
    · exact br_t rfl (pk_le n 0 (fun y => absurd (F2.mpr z) (by omega)) (fun _ => br_t rfl lp))
    · refine br_f (by decide) (pk_le n 0 (fun _ => br_t rfl lp) (fun y => ?_))
      have := F2.mp y
      rw [z] at this
      exact absurd this (by decide)
  have s47 : ∀ w : Nat, ((hg_wn g a b c = true ∧ w = 1) ∨ (hg_wn g a b c = false ∧ w = 0)) → wpX_has (fun r_18 => (wpX_has (fun r_19 => (wpX_has (fun r_20 => (((((r_18 + r_19) + r_20) = 0 → (wL_wins_47 post (nI g) (nI n) (nI n2) (nI w) (-1) 1 (nI n2) h m2)) ∧ (¬ ((r_18 + r_19) + r_20) = 0 → (wL_wins_47 post (nI g) (nI n) (nI n2) (nI w) (-1) 0 (nI n2) h m2))))) (nI n2, h, m2) 2)) (nI n2, h, m2) 1)) (nI n2, h, m2) 0 := by
    intro w hw
    refine hg_has (i := 0) (by omega) (hg_has (i := 1) (by omega) (hg_has (i := 2) (by omega) ?_))
    refine pk_eq (a + b + c) 0 (fun z => ?_) (fun z => ?_) (by rw [e0, e1, e2, nI_add, nI_add])
    · refine pk_lt n2 n (fun y => absurd y (by omega)) (fun _ => pk_eq g 1 (fun y => br_f (by decide) ?_) (fun y => s77 w hw (fun t => y t.1)))
      have za : a = 0 := by omega
      have zb : b = 0 := by omega
      have zc : c = 0 := by omega
      have n20 : n2 = 0 := by
        rcases Nat.eq_zero_or_pos n2 with x | x
        · exact x
        · refine absurd ((hR2.2.2.2 _).mpr ⟨0, x, rfl⟩) ?_
          rw [y, za, zb, zc]
          exact hg_F3
      have w1 : w = 1 := by
        rcases hw with x | x
        · exact x.2
        · have x1 := x.1
          rw [y, za, zb, zc] at x1
          exact absurd x1 (by decide)
      have lp := hg_105 (f := nI n2) (m := m2) hH hg hw hR hn H
      rw [w1] at lp ⊢
      refine br_t rfl (br_t ?_ lp)
      rw [n20]
      rfl
    · exact pk_lt n2 n (fun y => absurd y (by omega)) (fun _ => pk_eq g 1 (fun y => br_t rfl (s77 w hw (fun t => z t.2))) (fun y => s77 w hw (fun t => z t.2)))
  exact hg_wonX hH hg (fun z => s47 1 (Or.inl ⟨z, rfl⟩)) (fun z => s47 0 (Or.inr ⟨z, rfl⟩))
end
section
variable {post : Int32 → Prop} {f : Int32} {h m : Nat → Int32} {a b c : Nat}
theorem hg_N0 : hg_wn 0 a b c = true ↔ ¬ a ^^^ b ^^^ c = 0 := by
  show decide (a ^^^ b ^^^ c ≠ 0) = true ↔ _
  rw [decide_eq_true_iff]
theorem hg_N1 : hg_wn 1 a b c = true ↔ ((a < 2 ∧ b < 2 ∧ c < 2) ↔ a ^^^ b ^^^ c = 0) := by
  show decide ((a < 2 ∧ b < 2 ∧ c < 2) ↔ a ^^^ b ^^^ c = 0) = true ↔ _
  rw [decide_eq_true_iff]
theorem hg_N : (hg_wn 0 a b c = true ↔ hg_wn 1 a b c = true) ↔ ¬ (a < 2 ∧ b < 2 ∧ c < 2) := by
  rw [hg_N0, hg_N1]
  generalize (a < 2 ∧ b < 2 ∧ c < 2) = p
  generalize (a ^^^ b ^^^ c = 0) = q
  by_cases hp : p <;> by_cases hq : q <;> simp [hp, hq]
theorem hg_32 {s : Nat} (hH : hg_H a b c h) (hs : s < 2) (hb : s = 1 ↔ ¬ (a < 2 ∧ b < 2 ∧ c < 2)) (H : post 1) : wL_nim_32 post (nI s) f h m := by
  rw [← hg_N] at hb
  have big : (hg_wn 0 a b c = true ↔ hg_wn 1 a b c = true) → s = 1 := hb.mpr
  have sml : ¬ (hg_wn 0 a b c = true ↔ hg_wn 1 a b c = true) → s = 0 := fun t => by
    have : ¬ s = 1 := fun u => t (hb.mp u)
    omega
  unfold wL_nim_32
  refine hg_wonX (g := 0) hH (by omega) (fun t0 => hg_wonX (g := 1) hH (by omega) (fun t1 => ?_) (fun t1 => ?_)) (fun t0 => hg_wonX (g := 1) hH (by omega) (fun t1 => ?_) (fun t1 => ?_))
  · rw [big ⟨fun _ => t1, fun _ => t0⟩]
    exact br_t rfl (br_t rfl H)
  · rw [sml (fun u => by have := u.mp t0; rw [t1] at this; exact absurd this (by decide))]
    exact br_f (by decide) (br_t rfl H)
  · rw [sml (fun u => by have := u.mpr t1; rw [t0] at this; exact absurd this (by decide))]
    exact br_f (by decide) (br_t rfl H)
  · rw [big ⟨fun u => by rw [t0] at u; exact absurd u (by decide), fun u => by rw [t1] at u; exact absurd u (by decide)⟩]
    exact br_t rfl (br_t rfl H)
theorem hg_nim (hH : hg_H a b c h) (H : post 1) : wpL_nim post (f, h, m) := by
  have hH' := hH
  obtain ⟨e0, e1, e2, l0, l1, l2⟩ := hH'
  have big : ¬ (a < 2 ∧ b < 2 ∧ c < 2) → wL_nim_27 post f h m := fun z => hg_32 (s := 1) hH (by omega) ⟨fun _ => z, fun _ => rfl⟩ H
  unfold wpL_nim
  dsimp only
  refine hg_has (i := 0) (by omega) (pk_lt 1 a (fun z => big (by omega)) (fun z1 => hg_has (i := 1) (by omega) (pk_lt 1 b (fun z => big (by omega)) (fun z2 => hg_has (i := 2) (by omega) (pk_le c 1 (fun z3 => ?_) (fun z => big (by omega)) e2)) rfl e1)) rfl e0)
  exact hg_32 (s := 0) hH (by omega) ⟨fun z => absurd z (by omega), fun z => absurd (show a < 2 ∧ b < 2 ∧ c < 2 by omega) z⟩ H
end
section
variable {post : Int32 → St1 → Prop} {f : Int32} {h m : Nat → Int32} {g a b c : Nat}
theorem hg_heap {i v : Nat} (hH : hg_H a b c h) (hi : i < 3) (hv : v < 16) (H : ∀ r h' a' b' c', hg_H a' b' c' h' → post r (f, h', m)) : wpX_heap post (f, h, m) (nI i) (nI v) := by
  obtain ⟨e0, e1, e2, l0, l1, l2⟩ := hH
  unfold wpX_heap
  dsimp only
  refine hg_badH hi (br_t rfl (pk_lt v 0 (fun z => absurd z (by omega)) (fun _ => pk_le v 15 (fun _ => ⟨pk_in i 3 hi, nm_e ⟨pk_in i 3 hi, nm_e ?_⟩⟩) (fun z => absurd z (by omega)))))
  rw [nI_clamp (n := i) (by omega)]
  rcases (show i = 0 ∨ i = 1 ∨ i = 2 by omega) with rfl | rfl | rfl
  · exact H _ _ v b c ⟨pk_us, (pk_un (by decide)).trans e1, (pk_un (by decide)).trans e2, hv, l1, l2⟩
  · exact H _ _ a v c ⟨(pk_un (by decide)).trans e0, pk_us, (pk_un (by decide)).trans e2, l0, hv, l2⟩
  · exact H _ _ a b v ⟨(pk_un (by decide)).trans e0, (pk_un (by decide)).trans e1, pk_us, l0, l1, hv⟩
theorem hg_play {i : Nat} (hH : hg_H a b c h) (hg : g < 8) (hi : i < 4) (H1 : ∀ f' m', post (-1) (f', h, m')) (H4 : ∀ f' m', post (-4) (f', h, m'))
    (H0 : ∀ f' m' h' a' b' c', hg_H a' b' c' h' → hg_wn g a' b' c' = false → post 0 (f', h', m')) : wpX_play post (f, h, m) (nI g) (nI i) := by
  have hH' := hH
  obtain ⟨e0, e1, e2, l0, l1, l2⟩ := hH'
  unfold wpX_play
  dsimp only
  refine hg_bad hg (br_t rfl (pk_eq g 3 (fun _ => H1 _ _) (fun g3 => pk_eq g 6 (fun _ => H1 _ _) (fun g6 => hg_find (al := 0) hH hg (by omega) (fun f' m' hs => ?_)))))
  obtain ⟨n, t, hn, rfl, hR⟩ := hs
  refine pk_lt i 0 (fun z => absurd z (by omega)) (fun _ => pk_lt i n (fun z => ⟨pk_in i 800 (by omega), ?_⟩) (fun _ => H4 _ _))
  dsimp only
  rw [nI_clamp (n := i) (by omega), hR.1 i z]
  have lt := hR.2.1 i z
  obtain ⟨a', b', c', k0, k1, k2, ev, kw⟩ := hg_F5 hg g3 g6 l0 l1 l2 ((hR.2.2.2 (t i)).mpr ⟨i, z, rfl⟩)
  generalize t i = v at *
  have x0 : nI v &&& 31 = nI a' := by
    rw [show nI v &&& 31 = nI (v % 2 ^ 5) from pk_andN (by omega) 5 (by decide), show v % 2 ^ 5 = a' by omega]
  have x1 : (nI v >>> ((5 : Int32) &&& 31)) &&& 31 = nI b' := by
    rw [show nI v >>> ((5 : Int32) &&& 31) = nI (v / 2 ^ 5) from pk_shrN (by omega) _ 5 (by decide), show nI (v / 2 ^ 5) &&& 31 = nI (v / 2 ^ 5 % 2 ^ 5) from pk_andN (by omega) 5 (by decide), show v / 2 ^ 5 % 2 ^ 5 = b' by omega]
  have x2 : nI v >>> ((10 : Int32) &&& 31) = nI c' := by
    rw [show nI v >>> ((10 : Int32) &&& 31) = nI (v / 2 ^ 10) from pk_shrN (by omega) _ 10 (by decide), show v / 2 ^ 10 = c' by omega]
  refine nm_e ?_
  rw [x0, x1, x2]
  refine nm_e (nm_e (nm_e ?_))
  have hN : hg_H a' b' c' (upd (upd (upd h 0 (nI a')) 1 (nI b')) 2 (nI c')) := ⟨by rw [pk_un (by decide), pk_un (by decide), pk_us], by rw [pk_un (by decide), pk_us], pk_us, k0, k1, k2⟩
  refine hg_wonX hN hg (fun y => ?_) (fun y => H0 _ _ _ _ _ _ hN y)
  rw [kw] at y
  exact absurd y (by decide)
end
/-! ===== the law ===== -/
section
variable {L : Nat} {xs : Nat → Int32} {kc ks : Nat} {f : Int32} {h m : Nat → Int32} {g a b c : Nat}
theorem hg_194 (hH : hg_H a b c h) : ∃ fu, wL_law_194 (fun r => r = 1) L xs kc ks fu 0 f h m := by
  refine pk_loop (fun n i s => wL_law_194 (fun r => r = 1) L xs kc ks n (nI i) s.1 h s.2) (fun _ _ => True) 8 0 (f, m) (by omega) trivial (fun n s _ => pk_le 8 8 (fun _ => hg_nim hH rfl) (fun z => absurd z (by omega))) ?_
  intro n i s hi _ hw
  exact pk_le 8 i (fun z => absurd z (by omega)) (fun _ => pk_eq i 2 (fun _ => nm_r (nI_1 i) (hw s trivial)) (fun _ => hg_wins hH hi (fun f' m' => br_f (by decide) (nm_r (nI_1 i) (hw (f', m') trivial)))))
theorem hg_148 {J : Int32 → Int32 → Int32 → (Nat → Int32) → (Nat → Int32) → Prop} {x2 x4 : Int32} {j : Nat} (hH : hg_H a b c h) (hg : g < 8) (H : ∀ x f' m', J x (nI (j + 2)) f' h m') : wL_law_148 (fun r => r = 1) L xs J x2 (nI j) x4 (nI g) kc ks f h m :=
  br_c (fun _ => nm_e (br_c (fun _ => nm_r (nI_add j 2) (H _ _ _)) (fun _ => hg_wins hH hg (fun f' m' => br_f (by decide) (hg_nim hH (br_f (by decide) (nm_r (nI_add j 2) (H _ _ _)))))))) (fun _ => nm_r (nI_add j 2) (H _ _ _))
theorem hg_cell {ps : Int32 → Prop} {p : Nat} (hL : L < 2 ^ 31) (hp : p < 2 ^ 31) (H : ∀ r, ps r) : wpL_cell ps L xs () (nI p) := pk_le L p (fun _ => H 0) (fun z => ⟨pk_in p L z, H _⟩)
theorem hg_12 (hL : L ≤ 260) : ∀ (d j : Nat) (x2 f : Int32) (h m : Nat → Int32) (a b c : Nat), j ≤ 262 → L ≤ j + 2 * d → hg_H a b c h → wL_law_12 (fun r => r = 1) L xs kc ks (d + 1) x2 (nI j) f h m := by
  intro d
  induction d with
  | zero => exact fun j x2 f h m a b c h1 h2 hH => pk_le L j (fun _ => hg_194 hH) (fun z => absurd z (by omega))
  | succ d ih =>
    intro j x2 f h m a b c h1 h2 hH
    refine pk_le L j (fun _ => hg_194 hH) (fun hj => hg_cell (by omega) (by omega) (fun r29 => ?_))
    rw [nI_1]
    refine hg_cell (by omega) (by omega) (fun r30 => nm_e ?_)
    obtain ⟨g, hg, eg⟩ := pk_andE (r29 >>> ((4 : Int32) &&& 31)) (m := 7) 3 (by decide)
    refine nm_r eg ?_
    have J : ∀ {h a b c}, hg_H a b c h → ∀ x f' m', wL_law_12 (fun r => r = 1) L xs kc ks (d + 1) x (nI (j + 2)) f' h m' := fun hH x f' m' => ih (j + 2) x f' _ m' _ _ _ (by omega) (by omega) hH
    refine br_c (fun _ => br_c (fun _ => hg_148 hH hg (J hH)) (fun _ => nm_e (br_c (fun _ => hg_148 hH hg (J hH)) (fun _ => ?_)))) (fun _ => ⟨by decide, ?_⟩)
    · obtain ⟨i, hi, ei⟩ := pk_andE r30 (m := 3) 2 (by decide)
      rw [ei]
      refine hg_play hH hg hi (fun f' m' => br_f (by decide) (br_f (by decide) (hg_148 hH hg (J hH)))) (fun f' m' => br_f (by decide) (br_f (by decide) (hg_148 hH hg (J hH)))) (fun f' m' h' a' b' c' hN kw => br_f (by decide) (br_t rfl ?_))
      refine hg_winning hN hg (fun f2 m2 hs => ?_)
      obtain ⟨n, t, hn, rfl, hR⟩ := hs
      have hN' := hN
      obtain ⟨_, _, _, k0, k1, k2⟩ := hN'
      have n0 : n = 0 := by
        rcases Nat.eq_zero_or_pos n with z | z
        · exact z
        · have ne : ¬ (g = 1 ∧ a' + b' + c' = 0) := by
            rintro ⟨rfl, y⟩
            rw [show a' = 0 by omega, show b' = 0 by omega, show c' = 0 by omega] at kw
            exact absurd kw (by decide)
          have := (hg_F2 hg k0 k1 k2 ne).mp ⟨t 0, (hR.2.2.2 _).mpr ⟨0, z, rfl⟩⟩
          rw [kw] at this
          exact absurd this (by decide)
      rw [n0]
      exact br_t rfl (hg_148 hN hg (J hN))
    · obtain ⟨q, hq, eq⟩ := pk_andE r30 (m := 127) 7 (by decide)
      have e3 : (r30 &&& 127) - (r30 &&& 127) / 3 * 3 = nI (q % 3) := by
        rw [eq]
        exact pk_rem (d := 3) (by omega) (by omega) (by omega)
      rw [e3]
      obtain ⟨v, hv, ev⟩ := pk_andE (r30 >>> ((7 : Int32) &&& 31)) (m := 15) 4 (by decide)
      obtain ⟨w, hw, ew⟩ := pk_andE (r30 >>> ((7 : Int32) &&& 31)) (m := 3) 2 (by decide)
      rw [ev, ew]
      exact br_c (fun _ => hg_heap hH (by omega) (by omega) (fun r h' a' b' c' hN => hg_148 hN hg (J hN))) (fun _ => hg_heap hH (by omega) (by omega) (fun r h' a' b' c' hN => hg_148 hN hg (J hN)))
end
theorem i_vc (xs : Nat → Int32) (L : Nat) (hL : L ≤ 260) : wpL_law (fun r => r = 1) L xs := by
  refine ⟨2, 803, by omega, by omega, by omega, by omega, by omega, by omega, ⟨L + 1, ?_⟩⟩
  exact hg_12 hL L 0 0 0 _ _ 0 0 0 (by omega) (by omega) ⟨rfl, rfl, rfl, by omega, by omega, by omega⟩
end
