section
/-! the pure picture: c p events of process p; G p k: state k of p is good; K p k q: how many events of q that state knows -/
def cw_W (c : Nat → Nat) (K : Nat → Nat → Nat → Nat) : Prop :=
  (∀ p, p < 3 → c p ≤ 8) ∧
  (∀ p k q, p < 3 → q < 3 → k ≤ c p → K p k q ≤ c q) ∧
  (∀ p k, p < 3 → k ≤ c p → K p k p = k) ∧
  (∀ p k q, p < 3 → q < 3 → k < c p → K p k q ≤ K p (k + 1) q) ∧
  (∀ p k q r, p < 3 → q < 3 → r < 3 → k ≤ c p → K q (K p k q) r ≤ K p k r) ∧
  (∀ p q k l, p < 3 → q < 3 → p ≠ q → 1 ≤ k → k ≤ c p → l ≤ c q → l ≤ K p k q → K q l p < k)
/-- a consistent cut, good at the processes of the set s -/
def cw_P (c : Nat → Nat) (G : Nat → Nat → Prop) (K : Nat → Nat → Nat → Nat) (s : Nat) (X : Nat → Nat) : Prop :=
  ∀ p, p < 3 → X p ≤ c p ∧ (s.testBit p = true → G p (X p)) ∧ ∀ q, q < 3 → K q (X q) p ≤ X p
/-- a stretch of good states of p, closed on its right -/
def cw_Z (c : Nat → Nat) (G : Nat → Nat → Prop) (p f t : Nat) : Prop :=
  f ≤ t ∧ t ≤ c p ∧ (∀ k, f ≤ k → k ≤ t → G p k) ∧ (t < c p → ¬ G p (t + 1))
/-- one stretch of each process of the set s, that meet -/
def cw_D (c : Nat → Nat) (G : Nat → Nat → Prop) (K : Nat → Nat → Nat → Nat) (s : Nat) (F T : Nat → Nat) : Prop :=
  (∀ p, p < 3 → s.testBit p = true → cw_Z c G p (F p) (T p)) ∧
  (∀ p q, p < 3 → q < 3 → p ≠ q → s.testBit p = true → s.testBit q = true → T p < c p → F q ≤ K p (T p + 1) q)
def cw_PP (c : Nat → Nat) (G : Nat → Nat → Prop) (K : Nat → Nat → Nat → Nat) (s : Nat) : Prop := ∃ X, cw_P c G K s X
def cw_DD (c : Nat → Nat) (G : Nat → Nat → Prop) (K : Nat → Nat → Nat → Nat) (s : Nat) : Prop := ∃ F T, cw_D c G K s F T
/-- the greatest of some numbers -/
theorem cw_max (b : Nat → Bool) (f : Nat → Nat) : ∀ n, (∃ p, p < n ∧ b p = true) → ∃ m, (∃ p, p < n ∧ b p = true ∧ f p = m) ∧ ∀ p, p < n → b p = true → f p ≤ m := by
  intro n
  induction n with
  | zero => intro h; obtain ⟨p, hp, _⟩ := h; omega
  | succ n ih =>
    intro h
    by_cases h1 : ∃ p, p < n ∧ b p = true
    · obtain ⟨m, ⟨p, hp, hb, e⟩, hm⟩ := ih h1
      by_cases hn : b n = true ∧ m < f n
      · refine ⟨f n, ⟨n, by omega, hn.1, rfl⟩, fun p' hp' hb' => ?_⟩
        by_cases e' : p' = n
        · rw [e'] <;> exact Nat.le_refl _
        · have := hm p' (by omega) hb'
          omega
      · refine ⟨m, ⟨p, by omega, hb, e⟩, fun p' hp' hb' => ?_⟩
        by_cases e' : p' = n
        · rw [e'] at hb' ⊢
          rcases Nat.lt_or_ge m (f n) with z | z
          · exact absurd ⟨hb', z⟩ hn
          · exact z
        · exact hm p' (by omega) hb'
    · obtain ⟨p, hp, hb⟩ := h
      have e : p = n := by
        rcases Nat.lt_or_ge p n with z | z
        · exact absurd ⟨p, z, hb⟩ h1
        · omega
      refine ⟨f n, ⟨n, by omega, by rw [← e]; exact hb, rfl⟩, fun p' hp' hb' => ?_⟩
      rcases Nat.lt_or_ge p' n with z | z
      · exact absurd ⟨p', z, hb'⟩ h1
      · rw [show p' = n by omega] <;> exact Nat.le_refl _
theorem cw_ch {r : Nat → Nat → Prop} (h : ∀ x, ∃ y, r x y) : ∃ f : Nat → Nat, ∀ x, r x (f x) := ⟨fun x => Classical.choose (h x), fun x => Classical.choose_spec (h x)⟩
/-- definitely: possibly -/
theorem cw_DP {c : Nat → Nat} {G : Nat → Nat → Prop} {K : Nat → Nat → Nat → Nat} {s : Nat} (hW : cw_W c K) (hs : ∃ p, p < 3 ∧ s.testBit p = true) (h : cw_DD c G K s) : cw_PP c G K s := by
  obtain ⟨F, T, hZ, hM⟩ := h
  obtain ⟨_, h2, h3, _, h5, h6⟩ := hW
  have hF : ∀ p, p < 3 → s.testBit p = true → F p ≤ c p := fun p hp hb => Nat.le_trans (hZ p hp hb).1 (hZ p hp hb).2.1
  obtain ⟨X, hX⟩ := cw_ch (r := fun r m => (∃ p, p < 3 ∧ s.testBit p = true ∧ K p (F p) r = m) ∧ ∀ p, p < 3 → s.testBit p = true → K p (F p) r ≤ m) (fun r => cw_max (fun p => s.testBit p) (fun p => K p (F p) r) 3 hs)
  refine ⟨X, fun r hr => ⟨?_, fun hb => ?_, fun q hq => ?_⟩⟩
  · obtain ⟨p, hp, hb, e⟩ := (hX r).1
    rw [← e]
    exact h2 p (F p) r hp hr (hF p hp hb)
  · have lo : F r ≤ X r := by
      have := (hX r).2 r hr hb
      rw [h3 r (F r) hr (hF r hr hb)] at this
      exact this
    have hi : X r ≤ T r := by
      rcases Nat.lt_or_ge (T r) (X r) with z | z
      · exfalso
        obtain ⟨p, hp, hbp, e⟩ := (hX r).1
        by_cases epr : p = r
        · subst epr
          have a := h3 p (F p) hp (hF p hp hbp)
          have b := (hZ p hp hbp).1
          omega
        · have a := h2 p (F p) r hp hr (hF p hp hbp)
          have b := hM r p hr hp (fun z => epr z.symm) hb hbp (by omega)
          have d := h6 r p (T r + 1) (F p) hr hp (fun z => epr z.symm) (by omega) (by omega) (hF p hp hbp) b
          omega
      · exact z
    exact (hZ r hr hb).2.2.1 (X r) lo hi
  · obtain ⟨p, hp, hb, e⟩ := (hX q).1
    rw [← e]
    exact Nat.le_trans (h5 p (F p) q r hp hq hr (hF p hp hb)) ((hX r).2 p hp hb)
/-- a smaller set -/
theorem cw_Psub {c : Nat → Nat} {G : Nat → Nat → Prop} {K : Nat → Nat → Nat → Nat} {s t : Nat} (h : ∀ p, p < 3 → s.testBit p = true → t.testBit p = true) (hP : cw_PP c G K t) : cw_PP c G K s := by
  obtain ⟨X, hX⟩ := hP
  exact ⟨X, fun p hp => ⟨(hX p hp).1, fun hb => (hX p hp).2.1 (h p hp hb), (hX p hp).2.2⟩⟩
theorem cw_Dsub {c : Nat → Nat} {G : Nat → Nat → Prop} {K : Nat → Nat → Nat → Nat} {s t : Nat} (h : ∀ p, p < 3 → s.testBit p = true → t.testBit p = true) (hP : cw_DD c G K t) : cw_DD c G K s := by
  obtain ⟨F, T, h1, h2⟩ := hP
  exact ⟨F, T, fun p hp hb => h1 p hp (h p hp hb), fun p q hp hq hn hb hb' => h2 p q hp hq hn (h p hp hb) (h q hq hb')⟩
/-- good cuts stay -/
theorem cw_Pkeep {c c' : Nat → Nat} {G G' : Nat → Nat → Prop} {K K' : Nat → Nat → Nat → Nat} {s : Nat} (hc : ∀ p, p < 3 → c p ≤ c' p) (hG : ∀ p k, p < 3 → k ≤ c p → G p k → G' p k) (hK : ∀ p k q, p < 3 → k ≤ c p → K' p k q = K p k q) (hP : cw_PP c G K s) : cw_PP c' G' K' s := by
  obtain ⟨X, hX⟩ := hP
  refine ⟨X, fun p hp => ⟨Nat.le_trans (hX p hp).1 (hc p hp), fun hb => hG p (X p) hp (hX p hp).1 ((hX p hp).2.1 hb), fun q hq => ?_⟩⟩
  rw [hK q (X q) p hq (hX q hq).1]
  exact (hX p hp).2.2 q hq
/-! an event: process p goes on to its state c p + 1, which knows V -/
def cw_c (c : Nat → Nat) (p : Nat) : Nat → Nat := fun q => if q = p then c p + 1 else c q
def cw_K (K : Nat → Nat → Nat → Nat) (p k : Nat) (V : Nat → Nat) : Nat → Nat → Nat → Nat := fun p' k' q => if p' = p ∧ k' = k then V q else K p' k' q
def cw_G (G : Nat → Nat → Prop) (p k : Nat) (B : Prop) : Nat → Nat → Prop := fun p' k' => (p' = p ∧ k' = k ∧ B) ∨ (¬ (p' = p ∧ k' = k) ∧ G p' k')
theorem cw_c_s {c : Nat → Nat} {p : Nat} : cw_c c p p = c p + 1 := by unfold cw_c; rw [if_pos rfl]
theorem cw_c_n {c : Nat → Nat} {p q : Nat} (h : q ≠ p) : cw_c c p q = c q := by unfold cw_c; rw [if_neg h]
theorem cw_c_le {c : Nat → Nat} {p q : Nat} : c q ≤ cw_c c p q := by
  by_cases e : q = p
  · rw [e, cw_c_s]; omega
  · rw [cw_c_n e] <;> exact Nat.le_refl _
theorem cw_K_s {K : Nat → Nat → Nat → Nat} {p k q : Nat} {V : Nat → Nat} : cw_K K p k V p k q = V q := by unfold cw_K; rw [if_pos ⟨rfl, rfl⟩]
theorem cw_K_n {K : Nat → Nat → Nat → Nat} {p k p' k' q : Nat} {V : Nat → Nat} (h : ¬ (p' = p ∧ k' = k)) : cw_K K p k V p' k' q = K p' k' q := by unfold cw_K; rw [if_neg h]
/-- an old state -/
theorem cw_K_o {c : Nat → Nat} {K : Nat → Nat → Nat → Nat} {p p' k' q : Nat} {V : Nat → Nat} (h : k' ≤ c p') : cw_K K p (c p + 1) V p' k' q = K p' k' q := by
  refine cw_K_n (fun z => ?_)
  obtain ⟨e1, e2⟩ := z
  rw [e1] at h
  omega
theorem cw_cas {c : Nat → Nat} {p p' k' : Nat} (h : k' ≤ cw_c c p p') : (p' = p ∧ k' = c p + 1) ∨ k' ≤ c p' := by
  by_cases e : p' = p
  · rw [e, cw_c_s] at h
    rw [e]
    omega
  · rw [cw_c_n e] at h
    exact Or.inr h
theorem cw_Wev {c : Nat → Nat} {K : Nat → Nat → Nat → Nat} {p : Nat} {V : Nat → Nat} (hW : cw_W c K) (hp : p < 3) (h8 : c p < 8) (hVp : V p = c p + 1) (hVc : ∀ q, q < 3 → q ≠ p → V q ≤ c q)
    (hVm : ∀ q, q < 3 → K p (c p) q ≤ V q) (hVd : ∀ q r, q < 3 → r < 3 → q ≠ p → K q (V q) r ≤ V r) : cw_W (cw_c c p) (cw_K K p (c p + 1) V) := by
  obtain ⟨h1, h2, h3, h4, h5, h6⟩ := hW
  refine ⟨fun q hq => ?_, fun p' k q hp' hq hk => ?_, fun p' k hp' hk => ?_, fun p' k q hp' hq hk => ?_, fun p' k q r hp' hq hr hk => ?_, fun p' q k l hp' hq hne h1k hk hl hlk => ?_⟩
  · by_cases e : q = p
    · rw [e, cw_c_s]; omega
    · rw [cw_c_n e]; exact h1 q hq
  · rcases cw_cas hk with ⟨e1, e2⟩ | z
    · rw [e1, e2, cw_K_s]
      by_cases e : q = p
      · rw [e, hVp, cw_c_s] <;> exact Nat.le_refl _
      · rw [cw_c_n e]; exact hVc q hq e
    · rw [cw_K_o z]
      exact Nat.le_trans (h2 p' k q hp' hq z) cw_c_le
  · rcases cw_cas hk with ⟨e1, e2⟩ | z
    · rw [e1, e2, cw_K_s]; exact hVp
    · rw [cw_K_o z]; exact h3 p' k hp' z
  · rcases cw_cas (show k + 1 ≤ cw_c c p p' from hk) with ⟨e1, e2⟩ | z
    · have e3 : k = c p := by omega
      rw [e1, e3, cw_K_s, cw_K_o (c := c) (p' := p) (Nat.le_refl _)]
      exact hVm q hq
    · rw [cw_K_o z, cw_K_o (show k ≤ c p' by omega)]
      exact h4 p' k q hp' hq z
  · rcases cw_cas hk with ⟨e1, e2⟩ | z
    · rw [e1, e2, cw_K_s, cw_K_s]
      by_cases e : q = p
      · rw [e, hVp, cw_K_s] <;> exact Nat.le_refl _
      · rw [cw_K_o (hVc q hq e)]
        exact hVd q r hq hr e
    · rw [cw_K_o z, cw_K_o z, cw_K_o (h2 p' k q hp' hq z)]
      exact h5 p' k q r hp' hq hr z
  · rcases cw_cas hk with ⟨e1, e2⟩ | z
    · rw [e1] at hne ⊢
      rw [cw_c_n (fun e => hne e.symm)] at hl
      rw [cw_K_o hl, e2]
      have := h2 q l p hq hp hl
      omega
    · rw [cw_K_o z] at hlk
      have a := h2 p' k q hp' hq z
      rw [cw_K_o (show l ≤ c q by omega)]
      exact h6 p' q k l hp' hq hne h1k z (by omega) hlk
/-! sums -/
def cw_S (f : Nat → Nat) : Nat → Nat
  | 0 => 0
  | n + 1 => cw_S f n + f n
theorem cw_S_le {f : Nat → Nat} {b : Nat} : ∀ n, (∀ i, i < n → f i ≤ b) → cw_S f n ≤ n * b := by
  intro n
  induction n with
  | zero => intro _; exact Nat.zero_le _
  | succ n ih =>
    intro h
    have a := ih (fun i hi => h i (by omega))
    have d := h n (by omega)
    show cw_S f n + f n ≤ (n + 1) * b
    rw [Nat.succ_mul]
    omega
theorem cw_S_mono {f g : Nat → Nat} : ∀ n, (∀ i, i < n → f i ≤ g i) → cw_S f n ≤ cw_S g n := by
  intro n
  induction n with
  | zero => intro _; exact Nat.le_refl _
  | succ n ih =>
    intro h
    have a := ih (fun i hi => h i (by omega))
    have d := h n (by omega)
    show cw_S f n + f n ≤ cw_S g n + g n
    omega
theorem cw_S_lt {f g : Nat → Nat} {i : Nat} : ∀ n, i < n → (∀ j, j < n → f j ≤ g j) → f i + 1 ≤ g i → cw_S f n + 1 ≤ cw_S g n := by
  intro n
  induction n with
  | zero => intro h; omega
  | succ n ih =>
    intro hi h e
    have d := h n (by omega)
    show cw_S f n + f n + 1 ≤ cw_S g n + g n
    by_cases z : i = n
    · rw [z] at e
      have a := cw_S_mono n (fun j hj => h j (show j < n + 1 by omega))
      omega
    · have a := ih (by omega) (fun j hj => h j (by omega)) e
      omega
theorem cw_S_ext {f : Nat → Nat} {n : Nat} : ∀ m, n ≤ m → (∀ i, n ≤ i → i < m → f i = 0) → cw_S f m = cw_S f n := by
  intro m
  induction m with
  | zero => intro h _; rw [show n = 0 by omega]
  | succ m ih =>
    intro h hz
    by_cases e : n = m + 1
    · rw [e]
    · show cw_S f m + f m = cw_S f n
      have a := ih (by omega) (fun i hi hm => hz i hi (by omega))
      have d := hz m (by omega) (by omega)
      omega
theorem cw_S_z {f : Nat → Nat} (n : Nat) (h : ∀ i, i < n → f i = 0) : cw_S f n = 0 := cw_S_ext (f := f) (n := 0) n (Nat.zero_le _) (fun i _ hi => h i hi)
/-- (i, j, k) is a consistent cut -/
def cw_C (c : Nat → Nat) (K : Nat → Nat → Nat → Nat) (i j k : Nat) : Prop :=
  i ≤ c 0 ∧ j ≤ c 1 ∧ k ≤ c 2 ∧ K 0 i 1 ≤ j ∧ K 1 j 0 ≤ i ∧ K 0 i 2 ≤ k ∧ K 1 j 2 ≤ k ∧ K 2 k 0 ≤ i ∧ K 2 k 1 ≤ j
def cw_I (c : Nat → Nat) (K : Nat → Nat → Nat → Nat) (i j k : Nat) : Nat :=
  if i ≤ c 0 ∧ j ≤ c 1 ∧ k ≤ c 2 ∧ K 0 i 1 ≤ j ∧ K 1 j 0 ≤ i ∧ K 0 i 2 ≤ k ∧ K 1 j 2 ≤ k ∧ K 2 k 0 ≤ i ∧ K 2 k 1 ≤ j then 1 else 0
theorem cw_I_t {c : Nat → Nat} {K : Nat → Nat → Nat → Nat} {i j k : Nat} (h : cw_C c K i j k) : cw_I c K i j k = 1 := if_pos h
theorem cw_I_f {c : Nat → Nat} {K : Nat → Nat → Nat → Nat} {i j k : Nat} (h : ¬ cw_C c K i j k) : cw_I c K i j k = 0 := if_neg h
theorem cw_I_le {c : Nat → Nat} {K : Nat → Nat → Nat → Nat} {i j k : Nat} : cw_I c K i j k ≤ 1 := by
  by_cases h : cw_C c K i j k
  · rw [cw_I_t h] <;> exact Nat.le_refl _
  · rw [cw_I_f h]; exact Nat.zero_le _
def cw_N3 (c : Nat → Nat) (K : Nat → Nat → Nat → Nat) (i j : Nat) : Nat := cw_S (fun k => cw_I c K i j k) 9
def cw_N2 (c : Nat → Nat) (K : Nat → Nat → Nat → Nat) (i : Nat) : Nat := cw_S (fun j => cw_N3 c K i j) 9
def cw_N (c : Nat → Nat) (K : Nat → Nat → Nat → Nat) : Nat := cw_S (fun i => cw_N2 c K i) 9
theorem cw_N3_e {c : Nat → Nat} {K : Nat → Nat → Nat → Nat} {i j : Nat} (h : c 2 ≤ 8) : cw_N3 c K i j = cw_S (fun k => cw_I c K i j k) (c 2 + 1) :=
  cw_S_ext 9 (by omega) (fun k hk _ => cw_I_f (fun z => absurd z.2.2.1 (by omega)))
theorem cw_N2_e {c : Nat → Nat} {K : Nat → Nat → Nat → Nat} {i : Nat} (h : c 1 ≤ 8) : cw_N2 c K i = cw_S (fun j => cw_N3 c K i j) (c 1 + 1) :=
  cw_S_ext 9 (by omega) (fun j hj _ => cw_S_z 9 (fun k _ => cw_I_f (fun z => absurd z.2.1 (by omega))))
theorem cw_N_e {c : Nat → Nat} {K : Nat → Nat → Nat → Nat} (h : c 0 ≤ 8) : cw_N c K = cw_S (fun i => cw_N2 c K i) (c 0 + 1) :=
  cw_S_ext 9 (by omega) (fun i hi _ => cw_S_z 9 (fun j _ => cw_S_z 9 (fun k _ => cw_I_f (fun z => absurd z.1 (by omega)))))
theorem cw_N3_le {c : Nat → Nat} {K : Nat → Nat → Nat → Nat} {i j : Nat} (h : c 2 ≤ 8) : cw_N3 c K i j ≤ c 2 + 1 := by
  rw [cw_N3_e h]
  have := cw_S_le (f := fun k => cw_I c K i j k) (b := 1) (c 2 + 1) (fun k _ => cw_I_le)
  omega
theorem cw_N2_le {c : Nat → Nat} {K : Nat → Nat → Nat → Nat} {i : Nat} (h1 : c 1 ≤ 8) (h2 : c 2 ≤ 8) : cw_N2 c K i ≤ (c 1 + 1) * (c 2 + 1) := by
  rw [cw_N2_e h1]
  exact cw_S_le (c 1 + 1) (fun j _ => cw_N3_le h2)
theorem cw_N_le {c : Nat → Nat} {K : Nat → Nat → Nat → Nat} (h0 : c 0 ≤ 8) (h1 : c 1 ≤ 8) (h2 : c 2 ≤ 8) : cw_N c K ≤ (c 0 + 1) * (c 1 + 1) * (c 2 + 1) := by
  rw [cw_N_e h0, Nat.mul_assoc]
  exact cw_S_le (c 0 + 1) (fun i _ => cw_N2_le h1 h2)
theorem cw_N_lt {c c' : Nat → Nat} {K K' : Nat → Nat → Nat → Nat} {i j k : Nat} (hi : i < 9) (hj : j < 9) (hk : k < 9) (hm : ∀ i j k, cw_C c K i j k → cw_C c' K' i j k) (h0 : ¬ cw_C c K i j k) (h1 : cw_C c' K' i j k) : cw_N c K + 1 ≤ cw_N c' K' := by
  have le : ∀ i j k, cw_I c K i j k ≤ cw_I c' K' i j k := by
    intro i j k
    by_cases h : cw_C c K i j k
    · rw [cw_I_t h, cw_I_t (hm i j k h)] <;> exact Nat.le_refl _
    · rw [cw_I_f h]; exact Nat.zero_le _
  have le3 : ∀ i j, cw_N3 c K i j ≤ cw_N3 c' K' i j := fun i j => cw_S_mono 9 (fun k _ => le i j k)
  have le2 : ∀ i, cw_N2 c K i ≤ cw_N2 c' K' i := fun i => cw_S_mono 9 (fun j _ => le3 i j)
  refine cw_S_lt 9 hi (fun i _ => le2 i) ?_
  refine cw_S_lt 9 hj (fun j _ => le3 i j) ?_
  refine cw_S_lt 9 hk (fun k _ => le i j k) ?_
  show cw_I c K i j k + 1 ≤ cw_I c' K' i j k
  rw [cw_I_f h0, cw_I_t h1] <;> exact Nat.le_refl _
/-- an event brings one more cut at least -/
theorem cw_Nev {c : Nat → Nat} {K : Nat → Nat → Nat → Nat} {p : Nat} {V : Nat → Nat} (hp : p < 3) (hW' : cw_W (cw_c c p) (cw_K K p (c p + 1) V)) : cw_N c K + 1 ≤ cw_N (cw_c c p) (cw_K K p (c p + 1) V) := by
  obtain ⟨h1, h2, _⟩ := hW'
  refine cw_N_lt (i := cw_c c p 0) (j := cw_c c p 1) (k := cw_c c p 2) (Nat.lt_succ_of_le (h1 0 (by omega))) (Nat.lt_succ_of_le (h1 1 (by omega))) (Nat.lt_succ_of_le (h1 2 (by omega))) ?_ ?_ ?_
  · intro i j k h
    obtain ⟨a1, a2, a3, a4, a5, a6, a7, a8, a9⟩ := h
    refine ⟨Nat.le_trans a1 cw_c_le, Nat.le_trans a2 cw_c_le, Nat.le_trans a3 cw_c_le, ?_, ?_, ?_, ?_, ?_, ?_⟩
    · rw [cw_K_o a1]; exact a4
    · rw [cw_K_o a2]; exact a5
    · rw [cw_K_o a1]; exact a6
    · rw [cw_K_o a2]; exact a7
    · rw [cw_K_o a3]; exact a8
    · rw [cw_K_o a3]; exact a9
  · intro h
    obtain ⟨a1, a2, a3, _⟩ := h
    have e : p = 0 ∨ p = 1 ∨ p = 2 := by omega
    rcases e with e | e | e <;> subst e
    · rw [cw_c_s] at a1; omega
    · rw [cw_c_s] at a2; omega
    · rw [cw_c_s] at a3; omega
  · exact ⟨Nat.le_refl _, Nat.le_refl _, Nat.le_refl _, h2 0 _ 1 (by omega) (by omega) (Nat.le_refl _), h2 1 _ 0 (by omega) (by omega) (Nat.le_refl _), h2 0 _ 2 (by omega) (by omega) (Nat.le_refl _), h2 1 _ 2 (by omega) (by omega) (Nat.le_refl _), h2 2 _ 0 (by omega) (by omega) (Nat.le_refl _), h2 2 _ 1 (by omega) (by omega) (Nat.le_refl _)⟩
theorem cw_W0 : cw_W (fun _ => 0) (fun _ _ _ => 0) :=
  ⟨fun _ _ => Nat.zero_le _, fun _ _ _ _ _ _ => Nat.le_refl 0, fun p k _ h => (Nat.le_zero.mp h).symm, fun _ _ _ _ _ _ => Nat.le_refl 0, fun _ _ _ _ _ _ _ _ => Nat.le_refl 0, fun p q k l _ _ _ h1 h2 => absurd (show 1 ≤ 0 from Nat.le_trans h1 h2) (by decide)⟩
theorem cw_N0 : 1 ≤ cw_N (fun _ => 0) (fun _ _ _ => 0) := by decide +kernel
end
section
/-! ===== Int32 by its bits: bt x i ===== -/
def bt (x : Int32) (i : Nat) : Bool := x.toBitVec.getLsbD i
theorem b_ext {x y : Int32} (h : ∀ i, i < 32 → bt x i = bt y i) : x = y := Int32.toBitVec_inj.mp (BitVec.eq_of_getLsbD_eq (fun i hi => h i hi))
theorem b_or (x y : Int32) (i : Nat) : bt (x ||| y) i = (bt x i || bt y i) := by unfold bt; rw [Int32.toBitVec_or, BitVec.getLsbD_or]
theorem b_and (x y : Int32) (i : Nat) : bt (x &&& y) i = (bt x i && bt y i) := by unfold bt; rw [Int32.toBitVec_and, BitVec.getLsbD_and]
theorem b_xor (x y : Int32) (i : Nat) : bt (x ^^^ y) i = (bt x i ^^ bt y i) := by unfold bt; rw [Int32.toBitVec_xor, BitVec.getLsbD_xor]
theorem b_big {x : Int32} {i : Nat} (h : 32 ≤ i) : bt x i = false := BitVec.getLsbD_of_ge _ _ h
theorem b_255 (i : Nat) : bt 255 i = decide (i < 8) := by
  rcases Nat.lt_or_ge i 32 with h | h
  · exact (by decide +kernel : ∀ i, i < 32 → bt 255 i = decide (i < 8)) i h
  · rw [b_big h, decide_eq_false (by omega)]
theorem b_65535 (i : Nat) : bt 65535 i = decide (i < 16) := by
  rcases Nat.lt_or_ge i 32 with h | h
  · exact (by decide +kernel : ∀ i, i < 32 → bt 65535 i = decide (i < 16)) i h
  · rw [b_big h, decide_eq_false (by omega)]
theorem b_m1 : ∀ i, i < 32 → bt (-1) i = true := by decide +kernel
theorem b_0 (i : Nat) : bt 0 i = false := BitVec.getLsbD_zero
theorem s_l : ∀ n, n < 32 → ((nI n &&& 31).toBitVec.smod 32).toNat = n := by decide +kernel
theorem s_u : ∀ n, n < 32 → (((nI n).toUInt32 &&& Int32.toUInt32 31).toBitVec % 32).toNat = n := by decide +kernel
theorem b_shl (n : Nat) (hn : n < 32) (x : Int32) {i : Nat} (hi : i < 32) : bt (x <<< (nI n &&& 31)) i = (decide (n ≤ i) && bt x (i - n)) := by
  unfold bt
  rw [Int32.toBitVec_shiftLeft]
  show (x.toBitVec <<< ((nI n &&& 31).toBitVec.smod 32).toNat).getLsbD i = _
  rw [s_l n hn, BitVec.getLsbD_shiftLeft]
  rcases Nat.lt_or_ge i n with h | h
  · simp [h, Nat.not_le.mpr h]
  · simp [hi, h, Nat.not_lt.mpr h]
theorem b_ushr (n : Nat) (hn : n < 32) (x : Int32) (i : Nat) : bt ((x.toUInt32 >>> ((nI n).toUInt32 &&& Int32.toUInt32 31)).toInt32) i = bt x (n + i) := by
  show (x.toUInt32 >>> ((nI n).toUInt32 &&& Int32.toUInt32 31)).toBitVec.getLsbD i = x.toUInt32.toBitVec.getLsbD (n + i)
  rw [UInt32.toBitVec_shiftRight]
  show (x.toUInt32.toBitVec >>> (((nI n).toUInt32 &&& Int32.toUInt32 31).toBitVec % 32).toNat).getLsbD i = _
  rw [s_u n hn, BitVec.getLsbD_ushiftRight]
theorem b_sshr (n : Nat) (hn : n < 32) (x : Int32) {i : Nat} (hi : i < 32) : bt (x >>> (nI n &&& 31)) i = if n + i < 32 then bt x (n + i) else bt x 31 := by
  unfold bt
  rw [Int32.toBitVec_shiftRight]
  show (x.toBitVec.sshiftRight ((nI n &&& 31).toBitVec.smod 32).toNat).getLsbD i = _
  rw [s_l n hn, BitVec.getLsbD_sshiftRight, BitVec.msb_eq_getLsbD_last]
  simp [hi]
/-! ===== own rows on bits ===== -/
/-- bit k of x is one, as the law asks -/
def cw_bt (x : Int32) (k : Nat) : Prop := ((x >>> (nI k &&& 31)) &&& 1) = 1
theorem cw_b1 : ∀ i, i < 32 → bt 1 i = decide (i = 0) := by decide +kernel
theorem cw_one (y : Int32) : (y &&& 1) = 1 ↔ bt y 0 = true := by
  constructor
  · intro h
    have e := b_and y 1 0
    rw [h, cw_b1 0 (by omega)] at e
    simpa using e
  · intro h
    apply b_ext
    intro i hi
    rw [b_and, cw_b1 i hi]
    by_cases e : i = 0
    · rw [e, h]; rfl
    · rw [decide_eq_false e, Bool.and_false]
theorem cw_bt_iff {x : Int32} {k : Nat} (hk : k < 32) : cw_bt x k ↔ bt x k = true := by
  unfold cw_bt
  rw [cw_one, b_sshr k hk x (by omega), if_pos (by omega), Nat.add_zero]
theorem cw_or1 {x y : Int32} {k : Nat} (hk : k < 32) (h : cw_bt x k) : cw_bt (x ||| y) k := by
  rw [cw_bt_iff hk] at h ⊢
  rw [b_or, h, Bool.true_or]
theorem cw_or2 {x y : Int32} {k : Nat} (hk : k < 32) (h : cw_bt y k) : cw_bt (x ||| y) k := by
  rw [cw_bt_iff hk] at h ⊢
  rw [b_or, h, Bool.or_true]
theorem cw_bit : ∀ k, k < 32 → ((((1 : Int32) <<< (nI k &&& 31)) >>> (nI k &&& 31)) &&& 1) = 1 := by decide +kernel
theorem cw_bt0 {k : Nat} (hk : k < 32) : ¬ cw_bt 0 k := by
  rw [cw_bt_iff hk, b_0]
  decide
/-- a bit of before: an old one, or the new one -/
theorem cw_bfr {x r : Int32} {s t : Nat} (hs : s < 32) (ht : t < 32) (hr : r = 1 ∨ r = 0) (h : cw_bt (x ||| (r <<< (nI t &&& 31))) s) : cw_bt x s ∨ (s = t ∧ r = 1) := by
  rw [cw_bt_iff hs, b_or, b_shl t ht r hs] at h
  rw [cw_bt_iff hs]
  rcases hr with e | e
  · rw [e, cw_b1 (s - t) (by omega)] at h
    by_cases z : bt x s = true
    · exact Or.inl z
    · refine Or.inr ⟨?_, e⟩
      simp [z] at h
      omega
  · rw [e, b_0, Bool.and_false, Bool.or_false] at h
    exact Or.inl h
theorem cw_or0 (x : Int32) : x ||| 0 = x := by
  apply b_ext
  intro i hi
  rw [b_or, b_0, Bool.or_false]
theorem cw_andm (x : Int32) : x &&& (-1) = x := by
  apply b_ext
  intro i hi
  rw [b_and, b_m1 i hi, Bool.and_true]
/-! a set s of processes -/
theorem cw_sb : ∀ s, s < 8 → ∀ p, p < 3 → ((((nI s).toUInt32 >>> ((nI p).toUInt32 &&& Int32.toUInt32 31)).toInt32 &&& 1) = 0 ↔ s.testBit p = false) := by decide +kernel
theorem cw_sub : ∀ s, s < 8 → ∀ t, t < 8 → (nI s &&& nI t = nI s) → ∀ p, p < 3 → s.testBit p = true → t.testBit p = true := by decide +kernel
theorem cw_s1 : ∀ s, s < 8 → (nI s &&& 1 = 0 ↔ s.testBit 0 = false) := by decide +kernel
theorem cw_s2 : ∀ s, s < 8 → (nI s &&& 2 = 0 ↔ s.testBit 1 = false) := by decide +kernel
theorem cw_s4 : ∀ s, s < 8 → (nI s &&& 4 = 0 ↔ s.testBit 2 = false) := by decide +kernel
theorem cw_sn : ∀ s, s < 8 → 1 ≤ s → (s.testBit 0 = true ∨ s.testBit 1 = true ∨ s.testBit 2 = true) := by decide +kernel
theorem cw_sne {s : Nat} (h : s < 8) (h1 : 1 ≤ s) : ∃ p, p < 3 ∧ s.testBit p = true := by
  rcases cw_sn s h h1 with z | z | z
  · exact ⟨0, by omega, z⟩
  · exact ⟨1, by omega, z⟩
  · exact ⟨2, by omega, z⟩
theorem cw_nt {b : Bool} (h : ¬ b = false) : b = true := by
  cases b
  · exact absurd rfl h
  · rfl
theorem cw_nf {b : Bool} (h : ¬ b = true) : b = false := by
  cases b
  · rfl
  · exact absurd rfl h
/-- a truth value as an int -/
def cw_ans (Q : Prop) (r : Int32) : Prop := (r = 1 ∧ Q) ∨ (r = 0 ∧ ¬ Q)
theorem cw_nar {B : Prop} {b : Int32} (h : cw_ans B b) : vp_nar .boolean b = 0 ↔ ¬ B := by
  rcases h with ⟨e, h⟩ | ⟨e, h⟩
  · rw [e, show vp_nar .boolean 1 = 1 from rfl]
    exact ⟨fun z => absurd z (by decide), fun z => absurd h z⟩
  · rw [e, show vp_nar .boolean 0 = 0 from rfl]
    exact ⟨fun _ => h, fun _ => rfl⟩
end
section
/-! arrays against the picture -/
def cw_Ra (c : Nat → Nat) (a : Nat → Int32) : Prop := ∀ p, p < 3 → a p = nI (c p)
def cw_Rg (G : Nat → Nat → Prop) (a : Nat → Int32) : Prop := ∀ p k, p < 3 → k < 9 → (a (9 * p + k) = 0 ↔ ¬ G p k)
def cw_Rk (K : Nat → Nat → Nat → Nat) (a : Nat → Int32) : Prop := ∀ p k q, p < 3 → k < 9 → q < 3 → a (27 * p + 3 * k + q) = nI (K p k q)
theorem cw_i9 (p k : Nat) : 9 * nI p + nI k = nI (9 * p + k) := by
  show nI 9 * nI p + nI k = _
  rw [pk_mul, nI_add]
theorem cw_i27 (p k q : Nat) : 27 * nI p + 3 * nI k + nI q = nI (27 * p + 3 * k + q) := by
  show nI 27 * nI p + nI 3 * nI k + nI q = _
  rw [pk_mul, pk_mul, nI_add, nI_add]
theorem cw_i27m (p k q : Nat) : 27 * nI p + 3 * nI (k + 1) - 3 + nI q = nI (27 * p + 3 * k + q) := by
  show nI 27 * nI p + nI 3 * nI (k + 1) - nI 3 + nI q = _
  rw [pk_mul, pk_mul, nI_add, pk_sub (by omega), nI_add]
  congr 1
section
variable {post : Int32 → Prop} {m : Int32} {a a1 a2 a3 a4 a5 a6 a7 a8 a9 : Nat → Int32} {c c' : Nat → Nat} {G : Nat → Nat → Prop} {K K' : Nat → Nat → Nat → Nat} {p k q v : Nat} {x : Int32} {B : Prop}
theorem cw_at (h : cw_Ra c a) (hp : p < 3) : a (nI p).toNatClampNeg = nI (c p) := by
  rw [nI_clamp (by omega)]
  exact h p hp
theorem cw_gin (hp : p < 3) (hk : k < 9) : vp_in (9 * nI p + nI k) 27 := by
  rw [cw_i9]
  exact vp_in_nI (by omega) (by omega)
theorem cw_gat (h : cw_Rg G a) (hp : p < 3) (hk : k < 9) : a (9 * nI p + nI k).toNatClampNeg = 0 ↔ ¬ G p k := by
  rw [cw_i9, nI_clamp (by omega)]
  exact h p k hp hk
theorem cw_kin (hp : p < 3) (hk : k < 9) (hq : q < 3) : vp_in (27 * nI p + 3 * nI k + nI q) 81 := by
  rw [cw_i27]
  exact vp_in_nI (by omega) (by omega)
theorem cw_ra_upd (h : cw_Ra c a) (hp : p < 3) (hv : c' p = v) (ho : ∀ q, q < 3 → q ≠ p → c' q = c q) : cw_Ra c' (upd a (nI p).toNatClampNeg (nI v)) := by
  intro q hq
  rw [nI_clamp (by omega)]
  by_cases e : q = p
  · rw [e, pk_us, hv]
  · rw [pk_un e, ho q hq e]
    exact h q hq
theorem cw_rg_upd {w : Int32} (h : cw_Rg G a) (hp : p < 3) (hk : k < 9) (hv : w = 0 ↔ ¬ B) (hx : x = nI (9 * p + k)) : cw_Rg (cw_G G p k B) (upd a x.toNatClampNeg w) := by
  intro p' k' hp' hk'
  rw [hx, nI_clamp (by omega)]
  by_cases e : p' = p ∧ k' = k
  · rw [show 9 * p' + k' = 9 * p + k by omega, pk_us, hv]
    exact ⟨fun nb z => Or.elim z (fun z => nb z.2.2) (fun z => z.1 e), fun z b => z (Or.inl ⟨e.1, e.2, b⟩)⟩
  · rw [pk_un (by omega), h p' k' hp' hk']
    exact ⟨fun ng z => Or.elim z (fun z => e ⟨z.1, z.2.1⟩) (fun z => ng z.2), fun z g => z (Or.inr ⟨e, g⟩)⟩
theorem cw_rk_upd (h : cw_Rk K a) (hp : p < 3) (hk : k < 9) (hq : q < 3) (hv : K' p k q = v)
    (ho : ∀ p' k' q', p' < 3 → k' < 9 → q' < 3 → ¬ (p' = p ∧ k' = k ∧ q' = q) → K' p' k' q' = K p' k' q') (hx : x = nI (27 * p + 3 * k + q)) : cw_Rk K' (upd a x.toNatClampNeg (nI v)) := by
  intro p' k' q' hp' hk' hq'
  rw [hx, nI_clamp (by omega)]
  by_cases e : p' = p ∧ k' = k ∧ q' = q
  · rw [show 27 * p' + 3 * k' + q' = 27 * p + 3 * k + q by omega, pk_us, e.1, e.2.1, e.2.2, hv]
  · rw [pk_un (by omega), h p' k' q' hp' hk' hq', ho p' k' q' hp' hk' hq' e]
theorem cw_rk_cg (h : cw_Rk K a) (he : ∀ p k q, p < 3 → k < 9 → q < 3 → K' p k q = K p k q) : cw_Rk K' a := by
  intro p k q hp hk hq
  rw [he p k q hp hk hq]
  exact h p k q hp hk hq
/-! the small methods -/
theorem cw_ip {u : St2} (p : Nat) (hp : p < 3) (H : post 1) (hx : x = nI p := by rfl) : wpX_isProcess post u x :=
  pk_lt p 0 (fun z => absurd z (by omega)) (fun _ => pk_lt 2 p (fun z => absurd z (by omega)) (fun _ => H) rfl hx) hx
theorem cw_ev (ha : cw_Ra c a1) (p : Nat) (hp : p < 3) (H : post (nI (c p))) (hx : x = nI p := by rfl) : wpX_events post (m, a1, a2, a3, a4, a5, a6, a7, a8, a9) x := by
  subst hx
  unfold wpX_events
  dsimp only
  refine cw_ip p hp (br_f (by decide) ⟨pk_in p 3 hp, ?_⟩)
  rw [cw_at ha hp]
  exact H
theorem cw_kb (h : cw_Rk K a3) (p k q : Nat) (hp : p < 3) (hk : k < 9) (hq : q < 3) (H : post (nI (K p k q))) {x y z : Int32} (hx : x = nI p := by rfl) (hy : y = nI k := by rfl) (hz : z = nI q := by rfl) : wpX_knownBy post (m, a1, a2, a3, a4, a5, a6, a7, a8, a9) x y z := by
  subst hx hy hz
  unfold wpX_knownBy
  dsimp only
  refine ⟨cw_kin hp hk hq, ?_⟩
  rw [cw_i27, nI_clamp (by omega), h p k q hp hk hq]
  exact H
theorem cw_kn (ha : cw_Ra c a1) (h : cw_Rk K a3) (p k q : Nat) (hp : p < 3) (hk : k ≤ c p) (h8 : c p ≤ 8) (hq : q < 3) (H : post (nI (K p k q))) {x y z : Int32} (hx : x = nI p := by rfl) (hy : y = nI k := by rfl) (hz : z = nI q := by rfl) : wpX_knows post (m, a1, a2, a3, a4, a5, a6, a7, a8, a9) x y z := by
  subst hx hy hz
  unfold wpX_knows
  dsimp only
  refine cw_ip p hp (br_f (by decide) (cw_ip q hq (br_f (by decide) (br_f (nI_pos (by omega)) ⟨pk_in p 3 hp, ?_⟩))))
  rw [cw_at ha hp]
  exact br_t (nI_le hk (by omega)) (cw_kb h p k q hp (by omega) hq H)
end
/-! advance -/
/-- what the new state knows when it is made -/
def cw_V0 (K : Nat → Nat → Nat → Nat) (p k : Nat) : Nat → Nat := fun q => if q = p then k + 1 else K p k q
def cw_A (K : Nat → Nat → Nat → Nat) (p k i : Nat) : Nat → Nat → Nat → Nat := fun p' k' q => if p' = p ∧ k' = k + 1 ∧ q < i then K p k q else K p' k' q
section
variable {post : St1 → Prop} {m : Int32} {a1 a2 a3 a4 a5 a6 a7 a8 a9 : Nat → Int32} {c : Nat → Nat} {G : Nat → Nat → Prop} {K : Nat → Nat → Nat → Nat} {p k : Nat} {b : Int32} {B : Prop}
theorem cw_adv31 (h : cw_Rk K a3) (hp : p < 3) (hk : k < 8) (H : ∀ a3', cw_Rk (cw_K K p (k + 1) (cw_V0 K p k)) a3' → post (m, a1, a2, a3', a4, a5, a6, a7, a8, a9)) :
    ∃ n, wX_advance_31 post (nI p) (nI (k + 1)) m n 0 a1 a2 a3 a4 a5 a6 a7 a8 a9 := by
  refine pk_loop (fun n i s => wX_advance_31 post (nI p) (nI (k + 1)) m n (nI i) a1 a2 s a4 a5 a6 a7 a8 a9) (fun i s => cw_Rk (cw_A K p k i) s) 3 0 a3 (by omega) ?_ ?_ ?_
  · refine cw_rk_cg h (fun p' k' q _ _ _ => ?_)
    unfold cw_A
    rw [if_neg (by omega)]
  · intro n s hs
    refine pk_le 3 3 (fun _ => ⟨cw_kin hp (by omega) hp, nm_e (H _ ?_)⟩) (fun z => absurd z (by omega))
    refine cw_rk_upd hs hp (by omega) hp ?_ (fun p' k' q' _ _ hq' hn => ?_) (cw_i27 _ _ _)
    · rw [cw_K_s]
      unfold cw_V0
      rw [if_pos rfl]
    · unfold cw_K cw_V0 cw_A
      by_cases e : p' = p ∧ k' = k + 1
      · rw [if_pos e, if_neg (fun z => hn ⟨e.1, e.2, z⟩), if_pos ⟨e.1, e.2, hq'⟩]
      · rw [if_neg e, if_neg (fun z => e ⟨z.1, z.2.1⟩)]
  · intro n i s hi hs hw
    refine pk_le 3 i (fun z => absurd z (by omega)) (fun _ => ⟨?_, cw_kin hp (by omega) hi, nm_e (nm_r (nI_1 i) (hw _ ?_))⟩)
    · rw [cw_i27m]
      exact vp_in_nI (by omega) (by omega)
    · show cw_Rk (cw_A K p k (i + 1)) _
      rw [cw_i27m, nI_clamp (show 27 * p + 3 * k + i < 2 ^ 31 by omega), hs p k i hp (by omega) hi]
      refine cw_rk_upd hs hp (by omega) hi ?_ (fun p' k' q' _ _ hq' hn => ?_) (cw_i27 _ _ _)
      · unfold cw_A
        rw [if_pos ⟨rfl, rfl, by omega⟩, if_neg (by omega)]
      · unfold cw_A
        by_cases e : p' = p ∧ k' = k + 1 ∧ q' < i
        · rw [if_pos e, if_pos ⟨e.1, e.2.1, by omega⟩]
        · rw [if_neg e, if_neg (by omega)]
theorem cw_adv (ha : cw_Ra c a1) (hg : cw_Rg G a2) (hk : cw_Rk K a3) (hp : p < 3) (h8 : c p < 8) (hb : cw_ans B b)
    (H : ∀ a1' a2' a3', cw_Ra (cw_c c p) a1' → cw_Rg (cw_G G p (c p + 1) B) a2' → cw_Rk (cw_K K p (c p + 1) (cw_V0 K p (c p))) a3' → post (m, a1', a2', a3', a4, a5, a6, a7, a8, a9)) :
    wpX_advance post (m, a1, a2, a3, a4, a5, a6, a7, a8, a9) (nI p) b := by
  unfold wpX_advance
  dsimp only
  refine ⟨pk_in p 3 hp, nm_r (e' := nI (c p + 1)) (by rw [cw_at ha hp, nI_1]) ⟨pk_in p 3 hp, nm_e ⟨cw_gin hp (by omega), nm_e (cw_adv31 hk hp h8 (fun a3' h3 => H _ _ a3' ?_ ?_ h3))⟩⟩⟩
  · exact cw_ra_upd ha hp cw_c_s (fun q _ hq => cw_c_n hq)
  · exact cw_rg_upd hg hp (by omega) (cw_nar hb) (cw_i9 _ _)
end
end
section
/-! the events -/
def cw_M (c : Nat → Nat) (M : Nat) (m : Int32) (a4 a5 : Nat → Int32) : Prop :=
  m = nI M ∧ M ≤ c 0 + c 1 + c 2 ∧ ∀ i, i < M → ∃ s t, s < 3 ∧ t ≤ c s ∧ a4 i = nI s ∧ a5 i = nI t
/-- the whole state against the picture -/
def cw_T (c : Nat → Nat) (G : Nat → Nat → Prop) (K : Nat → Nat → Nat → Nat) (M : Nat) (m : Int32) (a1 a2 a3 a4 a5 : Nat → Int32) : Prop :=
  cw_W c K ∧ cw_Ra c a1 ∧ cw_Rg G a2 ∧ cw_Rk K a3 ∧ cw_M c M m a4 a5 ∧ c 0 + c 1 + c 2 + 1 ≤ cw_N c K
/-- what a new state may know -/
def cw_V (c : Nat → Nat) (K : Nat → Nat → Nat → Nat) (p : Nat) (V : Nat → Nat) : Prop :=
  V p = c p + 1 ∧ (∀ q, q < 3 → q ≠ p → V q ≤ c q) ∧ (∀ q, q < 3 → K p (c p) q ≤ V q) ∧ ∀ q r, q < 3 → r < 3 → q ≠ p → K q (V q) r ≤ V r
def cw_V1 (K : Nat → Nat → Nat → Nat) (p k s t : Nat) : Nat → Nat := fun q => max (cw_V0 K p k q) (K s t q)
def cw_V2 (K : Nat → Nat → Nat → Nat) (p k s t i : Nat) : Nat → Nat := fun q => if q < i then max (cw_V0 K p k q) (K s t q) else cw_V0 K p k q
section
variable {post : Int32 → St1 → Prop} {m m' : Int32} {a a1 a2 a3 a4 a5 a6 a7 a8 a9 a1' a2' a3' a4' a5' : Nat → Int32} {c : Nat → Nat} {G G' : Nat → Nat → Prop} {K : Nat → Nat → Nat → Nat} {p k M M' s t : Nat} {V V' : Nat → Nat} {b : Int32} {B : Prop}
theorem cw_sum (hp : p < 3) : cw_c c p 0 + cw_c c p 1 + cw_c c p 2 = c 0 + c 1 + c 2 + 1 := by
  have e : p = 0 ∨ p = 1 ∨ p = 2 := by omega
  rcases e with e | e | e <;> subst e
  · rw [cw_c_s, cw_c_n (c := c) (p := 0) (q := 1) (by omega), cw_c_n (c := c) (p := 0) (q := 2) (by omega)]; omega
  · rw [cw_c_s, cw_c_n (c := c) (p := 1) (q := 0) (by omega), cw_c_n (c := c) (p := 1) (q := 2) (by omega)]; omega
  · rw [cw_c_s, cw_c_n (c := c) (p := 2) (q := 0) (by omega), cw_c_n (c := c) (p := 2) (q := 1) (by omega)]; omega
theorem cw_V0ok (hW : cw_W c K) (hp : p < 3) : cw_V c K p (cw_V0 K p (c p)) := by
  obtain ⟨h1, h2, h3, h4, h5, h6⟩ := hW
  have e0 : cw_V0 K p (c p) p = c p + 1 := if_pos rfl
  have e1 : ∀ q, q ≠ p → cw_V0 K p (c p) q = K p (c p) q := fun q h => if_neg h
  have hm : ∀ q, q < 3 → K p (c p) q ≤ cw_V0 K p (c p) q := by
    intro q hq
    by_cases e : q = p
    · rw [e, e0, h3 p (c p) hp (Nat.le_refl _)]; omega
    · exact Nat.le_of_eq (e1 q e).symm
  refine ⟨e0, fun q hq hn => ?_, hm, fun q r hq hr hn => ?_⟩
  · rw [e1 q hn]
    exact h2 p (c p) q hp hq (Nat.le_refl _)
  · rw [e1 q hn]
    exact Nat.le_trans (h5 p (c p) q r hp hq hr (Nat.le_refl _)) (hm r hr)
theorem cw_V1ok (hW : cw_W c K) (hp : p < 3) (hs : s < 3) (ht : t ≤ c s) : cw_V c K p (cw_V1 K p (c p) s t) := by
  obtain ⟨v1, v2, v3, v4⟩ := cw_V0ok hW hp
  obtain ⟨h1, h2, h3, h4, h5, h6⟩ := hW
  have hl : ∀ q, cw_V0 K p (c p) q ≤ cw_V1 K p (c p) s t q := fun q => Nat.le_max_left _ _
  have hr' : ∀ q, K s t q ≤ cw_V1 K p (c p) s t q := fun q => Nat.le_max_right _ _
  refine ⟨?_, fun q hq hn => ?_, fun q hq => Nat.le_trans (v3 q hq) (hl q), fun q r hq hr hn => ?_⟩
  · have a := h2 s t p hs hp ht
    show max (cw_V0 K p (c p) p) (K s t p) = c p + 1
    rw [v1]
    exact Nat.max_eq_left (by omega)
  · exact Nat.max_le.mpr ⟨v2 q hq hn, h2 s t q hs hq ht⟩
  · rcases Nat.le_total (cw_V0 K p (c p) q) (K s t q) with z | z
    · have e : cw_V1 K p (c p) s t q = K s t q := Nat.max_eq_right z
      rw [e]
      exact Nat.le_trans (h5 s t q r hs hq hr ht) (hr' r)
    · have e : cw_V1 K p (c p) s t q = cw_V0 K p (c p) q := Nat.max_eq_left z
      rw [e]
      exact Nat.le_trans (v4 q r hq hr hn) (hl r)
theorem cw_Tev (hT : cw_T c G K M m a1 a2 a3 a4 a5) (hp : p < 3) (h8 : c p < 8) (hV : cw_V c K p V) (ha' : cw_Ra (cw_c c p) a1') (hg' : cw_Rg G' a2') (hk' : cw_Rk (cw_K K p (c p + 1) V) a3')
    (hM' : cw_M (cw_c c p) M' m' a4' a5') : cw_T (cw_c c p) G' (cw_K K p (c p + 1) V) M' m' a1' a2' a3' a4' a5' := by
  obtain ⟨hW, ha, hg, hk, hM, hN⟩ := hT
  have hW' := cw_Wev hW hp h8 hV.1 hV.2.1 hV.2.2.1 hV.2.2.2
  refine ⟨hW', ha', hg', hk', hM', ?_⟩
  have := cw_Nev hp hW'
  rw [cw_sum hp]
  omega
theorem cw_Mkeep (hp : p < 3) (h : cw_M c M m a4 a5) : cw_M (cw_c c p) M m a4 a5 := by
  obtain ⟨h1, h2, h3⟩ := h
  refine ⟨h1, ?_, fun i hi => ?_⟩
  · rw [cw_sum hp]; omega
  · obtain ⟨s, t, e1, e2, e3, e4⟩ := h3 i hi
    exact ⟨s, t, e1, Nat.le_trans e2 cw_c_le, e3, e4⟩
theorem cw_Madd (hp : p < 3) (h : cw_M c M m a4 a5) : cw_M (cw_c c p) (M + 1) (nI (M + 1)) (upd a4 M (nI p)) (upd a5 M (nI (c p + 1))) := by
  obtain ⟨h1, h2, h3⟩ := h
  refine ⟨rfl, ?_, fun i hi => ?_⟩
  · rw [cw_sum hp]; omega
  · by_cases e : i = M
    · refine ⟨p, c p + 1, hp, Nat.le_of_eq cw_c_s.symm, ?_, ?_⟩
      · rw [e, pk_us]
      · rw [e, pk_us]
    · obtain ⟨s, t, e1, e2, e3, e4⟩ := h3 i (by omega)
      exact ⟨s, t, e1, Nat.le_trans e2 cw_c_le, by rw [pk_un e, e3], by rw [pk_un e, e4]⟩
theorem cw_M24 (hW : cw_W c K) (h : cw_M c M m a4 a5) : M ≤ 24 := by
  have a := hW.1 0 (by omega)
  have b := hW.1 1 (by omega)
  have d := hW.1 2 (by omega)
  have e := h.2.1
  omega
theorem cw_rk_V (h : cw_Rk (cw_K K p k V) a) (he : ∀ q, q < 3 → V' q = V q) : cw_Rk (cw_K K p k V') a := by
  refine cw_rk_cg h (fun p' k' q _ _ hq => ?_)
  unfold cw_K
  rw [he q hq]
theorem cw_rcv79 {u : Nat} (ha : cw_Ra (cw_c c p) a1) (hk : cw_Rk (cw_K K p (c p + 1) (cw_V0 K p (c p))) a3) (hW : cw_W c K) (hp : p < 3) (h8 : c p < 8) (hu : u < 24) (hs : s < 3) (ht : t ≤ c s) (e4 : a4 u = nI s) (e5 : a5 u = nI t)
    (H : ∀ a3', cw_Rk (cw_K K p (c p + 1) (cw_V1 K p (c p) s t)) a3' → post (nI (c p + 1)) (m, a1, a2, a3', a4, a5, a6, a7, a8, a9)) :
    ∃ n, wX_receive_79 post (nI p) (nI u) m n 0 a1 a2 a3 a4 a5 a6 a7 a8 a9 := by
  refine pk_loop (fun n i r => wX_receive_79 post (nI p) (nI u) m n (nI i) a1 a2 r a4 a5 a6 a7 a8 a9) (fun i r => cw_Rk (cw_K K p (c p + 1) (cw_V2 K p (c p) s t i)) r) 3 0 a3 (by omega) ?_ ?_ ?_
  · exact cw_rk_V hk (fun q _ => if_neg (by omega))
  · intro n r hr
    refine pk_le 3 3 (fun _ => ⟨pk_in p 3 hp, ?_⟩) (fun z => absurd z (by omega))
    rw [cw_at ha hp, cw_c_s]
    exact H r (cw_rk_V hr (fun q hq => (if_pos hq).symm))
  · intro n i r hi hr hw
    have es8 := hW.1 s hs
    have ei8 := hW.1 i hi
    have eK : cw_K K p (c p + 1) (cw_V2 K p (c p) s t i) s t i = K s t i := cw_K_o ht
    have b1 : K s t i ≤ c i := hW.2.1 s t i hs hi ht
    have b2 : cw_V0 K p (c p) i ≤ 9 := by
      by_cases e : i = p
      · rw [e, (cw_V0ok hW hp).1]; omega
      · have := (cw_V0ok hW hp).2.1 i hi e
        omega
    have eV : r (nI (27 * p + 3 * (c p + 1) + i)).toNatClampNeg = nI (cw_V0 K p (c p) i) := by
      rw [nI_clamp (by omega)]
      have := hr p (c p + 1) i hp (by omega) hi
      rw [this, cw_K_s]
      unfold cw_V2
      rw [if_neg (by omega)]
    have ho : ∀ p' k' q', p' < 3 → k' < 9 → q' < 3 → ¬ (p' = p ∧ k' = c p + 1 ∧ q' = i) → cw_K K p (c p + 1) (cw_V2 K p (c p) s t (i + 1)) p' k' q' = cw_K K p (c p + 1) (cw_V2 K p (c p) s t i) p' k' q' := by
      intro p' k' q' _ _ _ hn
      unfold cw_K cw_V2
      by_cases e : p' = p ∧ k' = c p + 1
      · rw [if_pos e, if_pos e]
        have hq : q' ≠ i := fun z => hn ⟨e.1, e.2, z⟩
        by_cases g : q' < i
        · rw [if_pos g, if_pos (by omega)]
        · rw [if_neg g, if_neg (by omega)]
      · rw [if_neg e, if_neg e]
    have hv : cw_K K p (c p + 1) (cw_V2 K p (c p) s t (i + 1)) p (c p + 1) i = max (cw_V0 K p (c p) i) (K s t i) := by
      rw [cw_K_s]
      exact if_pos (by omega)
    refine pk_le 3 i (fun z => absurd z (by omega)) (fun _ => ⟨pk_in u 24 hu, pk_in u 24 hu, cw_kb hr s t i hs (by omega) hi ?_ (by rw [nI_clamp (by omega), e4]) (by rw [nI_clamp (by omega), e5]) rfl⟩)
    rw [eK]
    refine And.intro (pk_in p 3 hp) (nm_r (e' := nI (27 * p + 3 * (c p + 1) + i)) (by rw [cw_at ha hp, cw_c_s, cw_i27]) (And.intro (vp_in_nI (by omega) (by omega)) ?_))
    rw [eV]
    refine pk_le (K s t i) (cw_V0 K p (c p) i) (fun z => ⟨vp_in_nI (by omega) (by omega), vp_in_nI (by omega) (by omega), nm_e (nm_r (nI_1 i) (hw _ ?_))⟩) (fun z => ⟨vp_in_nI (by omega) (by omega), nm_e (nm_r (nI_1 i) (hw _ ?_))⟩)
    · exact cw_rk_upd hr hp (by omega) hi (by rw [hv, Nat.max_eq_left z]) ho rfl
    · exact cw_rk_upd hr hp (by omega) hi (by rw [hv, Nat.max_eq_right (Nat.le_of_lt z)]) ho rfl
theorem cw_step (hT : cw_T c G K M m a1 a2 a3 a4 a5) (hp : p < 3) (hb : cw_ans B b) (H0 : post (-1) (m, a1, a2, a3, a4, a5, a6, a7, a8, a9))
    (H1 : ∀ V j M' m' a1' a2' a3' a4' a5' a6', c p < 8 → j < 2 ^ 31 → cw_T (cw_c c p) (cw_G G p (c p + 1) B) (cw_K K p (c p + 1) V) M' m' a1' a2' a3' a4' a5' → post (nI j) (m', a1', a2', a3', a4', a5', a6', a7, a8, a9)) :
    wpX_step post (m, a1, a2, a3, a4, a5, a6, a7, a8, a9) (nI p) b := by
  have hT' := hT
  obtain ⟨hW, ha, hg, hk, hM, hN⟩ := hT'
  have h8' := hW.1 p hp
  unfold wpX_step
  dsimp only
  refine cw_ip p hp (br_f (by decide) ⟨pk_in p 3 hp, pk_lt (c p) 8 (fun h8 => cw_adv ha hg hk hp h8 hb (fun a1' a2' a3' ha' hg' hk' => And.intro (pk_in p 3 hp) ?_)) (fun _ => H0) (cw_at ha hp)⟩)
  dsimp only
  rw [cw_at ha' hp, cw_c_s]
  exact H1 _ _ M m a1' a2' a3' a4 a5 a6 h8 (by omega) (cw_Tev hT hp h8 (cw_V0ok hW hp) ha' hg' hk' (cw_Mkeep hp hM))
theorem cw_send (hT : cw_T c G K M m a1 a2 a3 a4 a5) (hp : p < 3) (hb : cw_ans B b) (H0 : post (-1) (m, a1, a2, a3, a4, a5, a6, a7, a8, a9))
    (H1 : ∀ V j M' m' a1' a2' a3' a4' a5' a6', c p < 8 → j < 2 ^ 31 → cw_T (cw_c c p) (cw_G G p (c p + 1) B) (cw_K K p (c p + 1) V) M' m' a1' a2' a3' a4' a5' → post (nI j) (m', a1', a2', a3', a4', a5', a6', a7, a8, a9)) :
    wpX_send post (m, a1, a2, a3, a4, a5, a6, a7, a8, a9) (nI p) b := by
  have hT' := hT
  obtain ⟨hW, ha, hg, hk, hM, hN⟩ := hT'
  have h8' := hW.1 p hp
  have hm := hM.1
  unfold wpX_send
  dsimp only
  refine cw_ip p hp (br_f (by decide) ⟨pk_in p 3 hp, pk_lt (c p) 8 (fun h8 => cw_adv ha hg hk hp h8 hb (fun a1' a2' a3' ha' hg' hk' => ?_)) (fun _ => H0) (cw_at ha hp)⟩)
  have h24 : M < 24 := by
    have a := hW.1 0 (by omega)
    have b := hW.1 1 (by omega)
    have d := hW.1 2 (by omega)
    have e := hM.2.1
    have f : p = 0 ∨ p = 1 ∨ p = 2 := by omega
    rcases f with f | f | f <;> rw [f] at h8 <;> omega
  refine And.intro (pk_in M 24 h24 hm) (nm_e ⟨pk_in p 3 hp, pk_in M 24 h24 hm, nm_e ⟨pk_in M 24 h24 hm, nm_e (nm_r (e' := nI (M + 1)) (by rw [hm, nI_1]) ?_)⟩⟩)
  dsimp only
  rw [hm, nI_clamp (by omega), cw_at ha' hp, cw_c_s, nI_pred]
  exact H1 _ M (M + 1) _ a1' a2' a3' _ _ _ h8 (by omega) (cw_Tev hT hp h8 (cw_V0ok hW hp) ha' hg' hk' (cw_Madd hp hM))
theorem cw_start (hT : cw_T c G K M m a1 a2 a3 a4 a5) (hp : p < 3) (hb : cw_ans B b)
    (H1 : ∀ a2', cw_T c (cw_G G p 0 B) K M m a1 a2' a3 a4 a5 → post 0 (m, a1, a2', a3, a4, a5, a6, a7, a8, a9)) :
    wpX_start post (m, a1, a2, a3, a4, a5, a6, a7, a8, a9) (nI p) b := by
  obtain ⟨hW, ha, hg, hk, hM, hN⟩ := hT
  have e : 9 * nI p = nI (9 * p + 0) := by
    show nI 9 * nI p = _
    rw [pk_mul]
    rfl
  unfold wpX_start
  dsimp only
  refine cw_ip p hp (br_f (by decide) ⟨?_, nm_e (H1 _ ⟨hW, ha, cw_rg_upd hg hp (by omega) (cw_nar hb) e, hk, hM, hN⟩)⟩)
  rw [e]
  exact vp_in_nI (by omega) (by omega)
theorem cw_rcv17 {u : Nat} {z0 : Int32} (hT : cw_T c G K M m a1 a2 a3 a4 a5) (hp : p < 3) (hb : cw_ans B b) (hz : z0 = 0 ∨ u < M) (H0 : post (-1) (m, a1, a2, a3, a4, a5, a6, a7, a8, a9))
    (H1 : ∀ V j M' m' a1' a2' a3' a4' a5' a6', c p < 8 → j < 2 ^ 31 → cw_T (cw_c c p) (cw_G G p (c p + 1) B) (cw_K K p (c p + 1) V) M' m' a1' a2' a3' a4' a5' → post (nI j) (m', a1', a2', a3', a4', a5', a6', a7, a8, a9)) :
    wX_receive_17 post (nI p) (nI u) b z0 m a1 a2 a3 a4 a5 a6 a7 a8 a9 := by
  have hT' := hT
  obtain ⟨hW, ha, hg, hk, hM, hN⟩ := hT'
  have h8' := hW.1 p hp
  have h24 := cw_M24 hW hM
  unfold wX_receive_17
  refine cw_ip p hp (br_f (by decide) ⟨pk_in p 3 hp, pk_le 8 (c p) (fun _ => H0) (fun h8 => br_c (fun _ => H0) (fun nz => ?_)) rfl (cw_at ha hp)⟩)
  have hu : u < M := hz.elim (fun z => absurd z nz) id
  refine ⟨pk_in u 24 (by omega), br_c (fun _ => ⟨pk_in u 24 (by omega), br_c (fun _ => H0) (fun _ => ⟨pk_in u 24 (by omega), nm_e ?_⟩)⟩) (fun _ => H0)⟩
  obtain ⟨s, t, hs, ht, e4, e5⟩ := hM.2.2 u hu
  refine cw_adv ha hg hk hp h8 hb (fun a1' a2' a3' ha' hg' hk' => ?_)
  refine cw_rcv79 ha' hk' hW hp h8 (by omega) hs ht e4 e5 (fun a3'' hk'' => ?_)
  exact H1 _ _ M m a1' a2' a3'' a4 a5 _ h8 (by omega) (cw_Tev hT hp h8 (cw_V1ok hW hp hs ht) ha' hg' hk'' (cw_Mkeep hp hM))
theorem cw_rcv {u : Nat} (hT : cw_T c G K M m a1 a2 a3 a4 a5) (hp : p < 3) (hb : cw_ans B b) (hu : u < 8) (H0 : post (-1) (m, a1, a2, a3, a4, a5, a6, a7, a8, a9))
    (H1 : ∀ V j M' m' a1' a2' a3' a4' a5' a6', c p < 8 → j < 2 ^ 31 → cw_T (cw_c c p) (cw_G G p (c p + 1) B) (cw_K K p (c p + 1) V) M' m' a1' a2' a3' a4' a5' → post (nI j) (m', a1', a2', a3', a4', a5', a6', a7, a8, a9)) :
    wpX_receive post (m, a1, a2, a3, a4, a5, a6, a7, a8, a9) (nI p) (nI u) b := by
  have h24 := cw_M24 hT.1 hT.2.2.2.2.1
  have hm := hT.2.2.2.2.1.1
  unfold wpX_receive
  dsimp only
  refine br_f (nI_pos (by omega)) (pk_le M u (fun _ => ?_) (fun z => cw_rcv17 hT hp hb (Or.inr z) H0 H1) hm)
  unfold wX_receive_16
  exact cw_rcv17 hT hp hb (Or.inl rfl) H0 H1
end
end
section
/-! findLeast, possibly, least -/
/-- process p need not go on -/
def cw_ok (G : Nat → Nat → Prop) (K : Nat → Nat → Nat → Nat) (S : Nat) (X : Nat → Nat) (p : Nat) : Prop :=
  (S.testBit p = true → G p (X p)) ∧ ∀ q, q < 3 → K q (X q) p ≤ X p
/-- no good cut is passed by -/
def cw_lo (c : Nat → Nat) (G : Nat → Nat → Prop) (K : Nat → Nat → Nat → Nat) (S : Nat) (X : Nat → Nat) : Prop :=
  ∀ Y, cw_P c G K S Y → ∀ p, p < 3 → X p ≤ Y p
/-- what neededState answers -/
def cw_ne (c : Nat → Nat) (G : Nat → Nat → Prop) (K : Nat → Nat → Nat → Nat) (S : Nat) (X : Nat → Nat) (p k : Nat) : Prop :=
  X p ≤ k ∧ k ≤ c p + 1 ∧ (∀ q, q < 3 → K q (X q) p ≤ k) ∧ (k ≤ c p → S.testBit p = true → G p k) ∧
  ∀ j, j ≤ c p → X p ≤ j → (∀ q, q < 3 → K q (X q) p ≤ j) → (S.testBit p = true → G p j) → k ≤ j
section
variable {m : Int32} {a a1 a2 a3 a4 a5 a6 a7 a8 a9 : Nat → Int32} {c X : Nat → Nat} {G : Nat → Nat → Prop} {K : Nat → Nat → Nat → Nat} {p k S : Nat}
theorem cw_mono {q : Nat} (hW : cw_W c K) (hp : p < 3) (hq : q < 3) : ∀ d, k + d ≤ c p → K p k q ≤ K p (k + d) q := by
  intro d
  induction d with
  | zero => intro _; exact Nat.le_refl _
  | succ d ih => intro h; exact Nat.le_trans (ih (by omega)) (hW.2.2.2.1 p (k + d) q hp hq (by omega))
theorem cw_mono' {q l : Nat} (hW : cw_W c K) (hp : p < 3) (hq : q < 3) (hk : k ≤ l) (hl : l ≤ c p) : K p k q ≤ K p l q := by
  have := cw_mono (k := k) hW hp hq (l - k) (by omega)
  rw [show k + (l - k) = l by omega] at this
  exact this
theorem cw_ns51 {post : Int32 → Prop} (hW : cw_W c K) (ha : cw_Ra c a1) (hg : cw_Rg G a2) (hp : p < 3) (hS : S < 8)
    (h1 : X p ≤ k) (h2 : k ≤ c p) (h3 : ∀ q, q < 3 → K q (X q) p ≤ k) (h4 : ∀ j, X p ≤ j → (∀ q, q < 3 → K q (X q) p ≤ j) → k ≤ j)
    (H : ∀ k, cw_ne c G K S X p k → post (nI k)) :
    ∃ n, wX_neededState_51 post (nI p) (nI S) m a1 a2 a3 a4 a5 a6 a7 a8 a9 n (nI k) := by
  have h8 := hW.1 p hp
  refine loop_m (σ := Nat) (fun n k => wX_neededState_51 post (nI p) (nI S) m a1 a2 a3 a4 a5 a6 a7 a8 a9 n (nI k))
    (fun k => X p ≤ k ∧ k ≤ c p + 1 ∧ (∀ q, q < 3 → K q (X q) p ≤ k) ∧ ∀ j, j ≤ c p → X p ≤ j → (∀ q, q < 3 → K q (X q) p ≤ j) → (S.testBit p = true → G p j) → k ≤ j)
    (fun k => c p + 1 - k) ?_ k ⟨h1, by omega, h3, fun j _ q1 q2 _ => h4 j q1 q2⟩
  intro n k hI hw
  obtain ⟨i1, i2, i3, i4⟩ := hI
  refine And.intro (pk_in p 3 hp) (pk_lt (c p) k (fun z => ?_) (fun z => ek_if (cw_sb S hS p hp) (fun e => ?_) (fun e => ?_)) (cw_at ha hp))
  · exact H k ⟨i1, i2, i3, fun y => absurd y (by omega), i4⟩
  · exact H k ⟨i1, i2, i3, fun _ y => absurd (e.symm.trans y) (by decide), i4⟩
  · refine ⟨cw_gin hp (by omega), ek_if (cw_gat hg hp (by omega)) (fun g => nm_r (nI_1 k) (hw (k + 1) ?_ ?_)) (fun g => ?_)⟩
    · refine ⟨by omega, by omega, fun q hq => Nat.le_succ_of_le (i3 q hq), fun j q1 q2 q3 q4 => ?_⟩
      have d := i4 j q1 q2 q3 q4
      have f : j ≠ k := fun y => g (by rw [← y]; exact q4 (cw_nt e))
      omega
    · show c p + 1 - (k + 1) < c p + 1 - k
      omega
    · exact H k ⟨i1, i2, i3, fun _ _ => Classical.byContradiction g, i4⟩
theorem cw_ns {post : Int32 → Prop} (hW : cw_W c K) (ha : cw_Ra c a1) (hg : cw_Rg G a2) (hk : cw_Rk K a3) (hX : cw_Ra X a7) (hXc : ∀ p, p < 3 → X p ≤ c p) (hp : p < 3) (hS : S < 8)
    (H : ∀ k, cw_ne c G K S X p k → post (nI k)) :
    wpX_neededState post (m, a1, a2, a3, a4, a5, a6, a7, a8, a9) (nI p) (nI S) := by
  have h8 := hW.1 p hp
  unfold wpX_neededState
  dsimp only
  refine ⟨pk_in p 3 hp, nm_r (cw_at hX hp) ?_⟩
  refine pk_loop (fun n i k => wX_neededState_10 post (nI p) (nI S) m a1 a2 a3 a4 a5 a6 a7 a8 a9 n (nI k) (nI i))
    (fun i k => X p ≤ k ∧ k ≤ c p ∧ (∀ q, q < i → K q (X q) p ≤ k) ∧ ∀ j, X p ≤ j → (∀ q, q < 3 → K q (X q) p ≤ j) → k ≤ j) 3 0 (X p) (by omega)
    ⟨Nat.le_refl _, hXc p hp, fun q hq => absurd hq (by omega), fun j h _ => h⟩ ?_ ?_
  · intro n k hI
    obtain ⟨i1, i2, i3, i4⟩ := hI
    exact pk_le 3 3 (fun _ => cw_ns51 hW ha hg hp hS i1 i2 i3 i4 H) (fun z => absurd z (by omega))
  · intro n i k hi hI hw
    obtain ⟨i1, i2, i3, i4⟩ := hI
    have hXi := hXc i hi
    have hi8 := hW.1 i hi
    have hKi := hW.2.1 i (X i) p hi hp hXi
    refine pk_le 3 i (fun z => absurd z (by omega)) (fun _ => ⟨pk_in i 3 hi, cw_kb hk i (X i) p hi (by omega) hp ?_ rfl (cw_at hX hi) rfl⟩)
    refine pk_le (K i (X i) p) k (fun z => nm_r (nI_1 i) (hw k ?_)) (fun z => nm_r (nI_1 i) (hw (K i (X i) p) ?_))
    · refine ⟨i1, i2, fun q hq => ?_, i4⟩
      by_cases e : q = i
      · rw [e]; exact z
      · exact i3 q (by omega)
    · refine ⟨by omega, hKi, fun q hq => ?_, fun j q1 q2 => q2 i hi⟩
      by_cases e : q = i
      · rw [e] <;> exact Nat.le_refl _
      · have := i3 q (by omega)
        omega
/-- the inner loop's invariant -/
def cw_J (c : Nat → Nat) (G : Nat → Nat → Prop) (K : Nat → Nat → Nat → Nat) (S s0 i : Nat) (ch : Int32) (a7 : Nat → Int32) : Prop :=
  ∃ X : Nat → Nat, cw_Ra X a7 ∧ (∀ p, p < 3 → X p ≤ c p) ∧ cw_lo c G K S X ∧ ((ch = 0 ∧ (∀ p, p < i → cw_ok G K S X p)) ∨ (ch = 1 ∧ s0 + 1 ≤ X 0 + X 1 + X 2)) ∧ s0 ≤ X 0 + X 1 + X 2
theorem cw_updsum {X : Nat → Nat} {i k : Nat} (hi : i < 3) (h : X i ≤ k) : X 0 + X 1 + X 2 ≤ (fun q => if q = i then k else X q) 0 + (fun q => if q = i then k else X q) 1 + (fun q => if q = i then k else X q) 2 ∧ (X i < k → X 0 + X 1 + X 2 + 1 ≤ (fun q => if q = i then k else X q) 0 + (fun q => if q = i then k else X q) 1 + (fun q => if q = i then k else X q) 2) := by
  have e : i = 0 ∨ i = 1 ∨ i = 2 := by omega
  rcases e with e | e | e <;> subst e
  · dsimp only
    rw [if_pos rfl, if_neg (by omega), if_neg (by omega)]
    omega
  · dsimp only
    rw [if_neg (by omega), if_pos rfl, if_neg (by omega)]
    omega
  · dsimp only
    rw [if_neg (by omega), if_neg (by omega), if_pos rfl]
    omega
theorem cw_fl39 {post : Int32 → St1 → Prop} {J : Int32 → Int32 → (Nat → Int32) → (Nat → Int32) → (Nat → Int32) → (Nat → Int32) → (Nat → Int32) → (Nat → Int32) → (Nat → Int32) → (Nat → Int32) → (Nat → Int32) → Prop} {s0 j : Nat}
    (hW : cw_W c K) (ha : cw_Ra c a1) (hg : cw_Rg G a2) (hk : cw_Rk K a3) (hS : S < 8) (h0 : cw_J c G K S s0 0 0 a7)
    (H0 : (∀ Y, ¬ cw_P c G K S Y) → ∀ a7', post 0 (m, a1, a2, a3, a4, a5, a6, a7', a8, a9))
    (HJ : ∀ ch a7', cw_J c G K S s0 3 ch a7' → J ch (nI (j + 1)) a1 a2 a3 a4 a5 a6 a7' a8 a9) :
    ∃ n, wX_findLeast_39 post J (nI S) (nI j) m n 0 0 a1 a2 a3 a4 a5 a6 a7 a8 a9 := by
  refine pk_loop (σ := Int32 × (Nat → Int32)) (fun n i s => wX_findLeast_39 post J (nI S) (nI j) m n s.1 (nI i) a1 a2 a3 a4 a5 a6 s.2 a8 a9) (fun i s => cw_J c G K S s0 i s.1 s.2) 3 0 (0, a7) (by omega) h0 ?_ ?_
  · intro n s hI
    exact pk_le 3 3 (fun _ => nm_r (nI_1 j) (HJ s.1 s.2 hI)) (fun z => absurd z (by omega))
  · intro n i s hi hI hw
    obtain ⟨X, hX, hXc, hlo, hch, hs0⟩ := hI
    have hi8 := hW.1 i hi
    refine pk_le 3 i (fun z => absurd z (by omega)) (fun _ => cw_ns hW ha hg hk hX hXc hi hS (fun k hn => ?_))
    obtain ⟨n1, n2, n3, n4, n5⟩ := hn
    have hmin : ∀ Y, cw_P c G K S Y → k ≤ Y i := by
      intro Y hY
      refine n5 (Y i) (hY i hi).1 (hlo Y hY i hi) (fun q' hq' => ?_) (hY i hi).2.1
      exact Nat.le_trans (cw_mono' hW hq' hi (hlo Y hY q' hq') (hY q' hq').1) ((hY i hi).2.2 q' hq')
    have hup : ∀ z0 : Int32, k ≤ c i → ((z0 = 0 ∧ k ≤ X i ∧ s.1 = 0) ∨ (z0 = 1 ∧ (X i < k ∨ s.1 = 1))) →
        wX_findLeast_89 post J (wX_findLeast_39 post J (nI S) (nI j) m n) (nI S) (nI j) (nI i) (nI k) z0 m a1 a2 a3 a4 a5 a6 s.2 a8 a9 := by
      intro z0 hkc hz
      unfold wX_findLeast_89
      refine ⟨pk_in i 3 hi, nm_e (nm_r (nI_1 i) (hw (z0, upd s.2 (nI i).toNatClampNeg (nI k)) ?_))⟩
      have us := cw_updsum hi n1
      refine ⟨fun q => if q = i then k else X q, cw_ra_upd hX hi (if_pos rfl) (fun q _ hq => if_neg hq), fun q hq => ?_, fun Y hY q hq => ?_, ?_, Nat.le_trans hs0 us.1⟩
      · dsimp only
        by_cases e : q = i
        · rw [if_pos e, e]; exact hkc
        · rw [if_neg e]; exact hXc q hq
      · dsimp only
        by_cases e : q = i
        · rw [if_pos e, e]; exact hmin Y hY
        · rw [if_neg e]; exact hlo Y hY q hq
      · rcases hz with ⟨z1, z2, z3⟩ | ⟨z1, z2⟩
        · refine Or.inl ⟨z1, fun q hq => ?_⟩
          have eX : (fun q => if q = i then k else X q) = X := by
            funext q'
            by_cases e : q' = i
            · rw [if_pos e, e]; omega
            · rw [if_neg e]
          rw [eX]
          by_cases e : q = i
          · have ek : k = X i := by omega
            rw [e]
            exact ⟨fun hb => by rw [← ek]; exact n4 hkc hb, fun q' hq' => by rw [← ek]; exact n3 q' hq'⟩
          · rcases hch with ⟨_, c2⟩ | ⟨c1, _⟩
            · exact c2 q (by omega)
            · exact absurd (z3.symm.trans c1) (by decide)
        · refine Or.inr ⟨z1, ?_⟩
          rcases z2 with z2 | z2
          · have := us.2 z2
            omega
          · rcases hch with ⟨c1, _⟩ | ⟨_, c2⟩
            · exact absurd (c1.symm.trans z2) (by decide)
            · have := us.1
              omega
    refine And.intro (pk_in i 3 hi) ?_
    refine pk_le k (c i) (fun hkc => ?_) (fun hkc => ?_) rfl (cw_at ha hi)
    · refine br_c (fun e => ⟨pk_in i 3 hi, pk_le k (X i) (fun z => hup 0 hkc (Or.inl ⟨rfl, z, e⟩)) (fun z => ?_) rfl (cw_at hX hi)⟩) (fun e => ?_)
      · unfold wX_findLeast_84
        exact hup 1 hkc (Or.inr ⟨rfl, Or.inl z⟩)
      · unfold wX_findLeast_84
        refine hup 1 hkc (Or.inr ⟨rfl, Or.inr ?_⟩)
        rcases hch with ⟨c1, _⟩ | ⟨c1, _⟩
        · exact absurd c1 e
        · exact c1
    · refine H0 (fun Y hY => ?_) s.2
      have d := hmin Y hY
      have f := (hY i hi).1
      omega
/-- the least good cut -/
def cw_L (c : Nat → Nat) (G : Nat → Nat → Prop) (K : Nat → Nat → Nat → Nat) (S : Nat) (X : Nat → Nat) : Prop := cw_P c G K S X ∧ cw_lo c G K S X
theorem cw_fl24 {post : Int32 → St1 → Prop} (hW : cw_W c K) (ha : cw_Ra c a1) (hg : cw_Rg G a2) (hk : cw_Rk K a3) (hS : S < 8) (hX : cw_Ra (fun _ => 0) a7)
    (H0 : (∀ Y, ¬ cw_P c G K S Y) → ∀ a7', post 0 (m, a1, a2, a3, a4, a5, a6, a7', a8, a9))
    (H1 : ∀ X a7', cw_Ra X a7' → cw_L c G K S X → post 1 (m, a1, a2, a3, a4, a5, a6, a7', a8, a9)) :
    ∃ n, wX_findLeast_24 post (nI S) m n 1 0 a1 a2 a3 a4 a5 a6 a7 a8 a9 := by
  refine loop_m (σ := Int32 × Nat × (Nat → Int32)) (fun n s => wX_findLeast_24 post (nI S) m n s.1 (nI s.2.1) a1 a2 a3 a4 a5 a6 s.2.2 a8 a9)
    (fun s => s.2.1 ≤ 30 ∧ ∃ X : Nat → Nat, cw_Ra X s.2.2 ∧ (∀ p, p < 3 → X p ≤ c p) ∧ cw_lo c G K S X ∧ ((s.1 = 0 ∧ ∀ p, p < 3 → cw_ok G K S X p) ∨ (s.1 = 1 ∧ s.2.1 ≤ X 0 + X 1 + X 2)))
    (fun s => 30 - s.2.1) ?_ (1, 0, a7) ⟨Nat.zero_le _, fun _ => 0, hX, fun p _ => Nat.zero_le _, fun Y _ p _ => Nat.zero_le _, Or.inr ⟨rfl, Nat.zero_le _⟩⟩
  intro n s hI hw
  obtain ⟨ch, j, b7⟩ := s
  obtain ⟨hj, X, hX, hXc, hlo, hch⟩ := hI
  dsimp only at hj hX hch
  have b0 := hXc 0 (by omega)
  have b1 := hXc 1 (by omega)
  have b2 := hXc 2 (by omega)
  have d0 := hW.1 0 (by omega)
  have d1 := hW.1 1 (by omega)
  have d2 := hW.1 2 (by omega)
  have hend : ch = 0 → post 1 (m, a1, a2, a3, a4, a5, a6, b7, a8, a9) := by
    intro e
    rcases hch with ⟨_, c2⟩ | ⟨c1, _⟩
    · exact H1 X b7 hX ⟨fun p hp => ⟨hXc p hp, (c2 p hp).1, (c2 p hp).2⟩, hlo⟩
    · exact absurd (e.symm.trans c1) (by decide)
  refine pk_le 30 j (fun z => hend ?_) (fun z => br_c hend (fun e => ?_))
  · rcases hch with ⟨c1, _⟩ | ⟨_, c2⟩
    · exact c1
    · omega
  · rcases hch with ⟨c1, _⟩ | ⟨_, c2⟩
    · exact absurd c1 e
    · refine cw_fl39 (s0 := X 0 + X 1 + X 2) hW ha hg hk hS ⟨X, hX, hXc, hlo, Or.inl ⟨rfl, fun p hp => absurd hp (by omega)⟩, Nat.le_refl _⟩ H0 (fun ch' a7' hJ => hw (ch', j + 1, a7') ?_ ?_)
      · obtain ⟨X', hX', hXc', hlo', hch', hs'⟩ := hJ
        refine ⟨z, X', hX', hXc', hlo', ?_⟩
        rcases hch' with c3 | ⟨c3, c4⟩
        · exact Or.inl c3
        · exact Or.inr ⟨c3, by dsimp only; omega⟩
      · dsimp only
        omega
theorem cw_fl {post : Int32 → St1 → Prop} (hW : cw_W c K) (ha : cw_Ra c a1) (hg : cw_Rg G a2) (hk : cw_Rk K a3) (hS : S < 8)
    (H0 : (∀ Y, ¬ cw_P c G K S Y) → ∀ a7', post 0 (m, a1, a2, a3, a4, a5, a6, a7', a8, a9))
    (H1 : ∀ X a7', cw_Ra X a7' → cw_L c G K S X → post 1 (m, a1, a2, a3, a4, a5, a6, a7', a8, a9)) :
    wpX_findLeast post (m, a1, a2, a3, a4, a5, a6, a7, a8, a9) (nI S) := by
  unfold wpX_findLeast
  dsimp only
  refine pk_loop (fun n i s => wX_findLeast_2 post (nI S) m n (nI i) a1 a2 a3 a4 a5 a6 s a8 a9) (fun i s => ∀ p, p < i → s p = 0) 3 0 a7 (by omega) (fun p hp => absurd hp (by omega)) ?_ ?_
  · intro n s hI
    exact pk_le 3 3 (fun _ => cw_fl24 hW ha hg hk hS hI H0 H1) (fun z => absurd z (by omega))
  · intro n i s hi hI hw
    refine pk_le 3 i (fun z => absurd z (by omega)) (fun _ => ⟨pk_in i 3 hi, nm_e (nm_r (nI_1 i) (hw _ ?_))⟩)
    intro p hp
    rw [nI_clamp (by omega)]
    by_cases e : p = i
    · rw [e, pk_us]
    · rw [pk_un e]
      exact hI p (by omega)
theorem cw_pos {post : Int32 → St1 → Prop} (hW : cw_W c K) (ha : cw_Ra c a1) (hg : cw_Rg G a2) (hk : cw_Rk K a3) (h1 : 1 ≤ S) (hS : S < 8)
    (H : ∀ r a7', cw_ans (cw_PP c G K S) r → post r (m, a1, a2, a3, a4, a5, a6, a7', a8, a9)) :
    wpX_possibly post (m, a1, a2, a3, a4, a5, a6, a7, a8, a9) (nI S) := by
  unfold wpX_possibly
  dsimp only
  refine pk_lt S 1 (fun z => absurd z (by omega)) (fun _ => pk_le S 7 (fun _ => ?_) (fun z => absurd z (by omega)))
  refine cw_fl hW ha hg hk hS (fun hn b7 => ?_) (fun X b7 hX hL => ?_)
  · exact br_t rfl (H 0 b7 (Or.inr ⟨rfl, fun z => Exists.elim z hn⟩))
  · exact br_f (by decide) (H 1 b7 (Or.inl ⟨rfl, X, hL.1⟩))
theorem cw_lea {post : Int32 → St1 → Prop} (hW : cw_W c K) (ha : cw_Ra c a1) (hg : cw_Rg G a2) (hk : cw_Rk K a3) (h1 : 1 ≤ S) (hS : S < 8) (p : Nat) (hp : p < 3)
    (H0 : (∀ Y, ¬ cw_P c G K S Y) → ∀ a7', post (-1) (m, a1, a2, a3, a4, a5, a6, a7', a8, a9))
    (H1 : ∀ X a7', cw_L c G K S X → post (nI (X p)) (m, a1, a2, a3, a4, a5, a6, a7', a8, a9)) {y : Int32} (hy : y = nI p := by rfl) :
    wpX_least post (m, a1, a2, a3, a4, a5, a6, a7, a8, a9) (nI S) y := by
  subst hy
  unfold wpX_least
  dsimp only
  refine pk_lt S 1 (fun z => absurd z (by omega)) (fun _ => pk_lt 7 S (fun z => absurd z (by omega)) (fun _ => cw_ip p hp (br_f (by decide) ?_)))
  refine cw_fl hW ha hg hk hS (fun hn b7 => ?_) (fun X b7 hX hL => ?_)
  · exact br_t rfl (H0 hn b7)
  · refine br_f (by decide) ⟨pk_in p 3 hp, ?_⟩
    dsimp only
    rw [cw_at hX hp]
    exact H1 X b7 hL
theorem cw_Luniq {Y : Nat → Nat} (hX : cw_L c G K S X) (hY : cw_L c G K S Y) (hp : p < 3) : X p = Y p := Nat.le_antisymm (hX.2 Y hY.1 p hp) (hY.2 X hX.1 p hp)
end
end
section
/-! nextStretch, tooEarly, stretchesMeet, definitely -/
section
variable {m : Int32} {a a1 a2 a3 a4 a5 a6 a7 a8 a9 : Nat → Int32} {c F T : Nat → Nat} {G : Nat → Nat → Prop} {K : Nat → Nat → Nat → Nat} {p k f k0 S : Nat}
theorem cw_i91 (p k : Nat) : 9 * nI p + nI k + 1 = nI (9 * p + (k + 1)) := by
  rw [cw_i9, nI_1]
  rfl
theorem cw_gin1 (hp : p < 3) (hk : k < 8) : vp_in (9 * nI p + nI k + 1) 27 := by
  rw [cw_i91]
  exact vp_in_nI (by omega) (by omega)
theorem cw_gat1 (h : cw_Rg G a) (hp : p < 3) (hk : k < 8) : a (9 * nI p + nI k + 1).toNatClampNeg = 0 ↔ ¬ G p (k + 1) := by
  rw [cw_i91, nI_clamp (by omega)]
  exact h p (k + 1) hp (by omega)
theorem cw_nx51 {post : Int32 → St1 → Prop} (h8 : c p ≤ 8) (ha : cw_Ra c a1) (hg : cw_Rg G a2) (hp : p < 3) (hf : f ≤ c p) (hG : G p f)
    (H : ∀ t, cw_Z c G p f t → post 1 (m, a1, a2, a3, a4, a5, a6, a7, a8, upd a9 p (nI t))) :
    ∃ n, wX_nextStretch_51 post (nI p) m a1 a2 a3 a4 a5 a6 a7 a8 a9 n (nI f) := by
  refine loop_m (σ := Nat) (fun n k => wX_nextStretch_51 post (nI p) m a1 a2 a3 a4 a5 a6 a7 a8 a9 n (nI k))
    (fun k => f ≤ k ∧ k ≤ c p ∧ ∀ j, f ≤ j → j ≤ k → G p j) (fun k => c p - k) ?_ f ⟨Nat.le_refl _, hf, fun j h1 h2 => by rw [show j = f by omega]; exact hG⟩
  intro n k hI hw
  obtain ⟨i1, i2, i3⟩ := hI
  refine And.intro (pk_in p 3 hp) (pk_le (c p) k (fun z => ?_) (fun z => ⟨cw_gin1 hp (by omega), ek_if (cw_gat1 hg hp (by omega)) (fun g => ?_) (fun g => ?_)⟩) (cw_at ha hp))
  · exact ⟨pk_in p 3 hp, nm_r (by rw [nI_clamp (by omega)]) (H k ⟨i1, i2, i3, fun y => absurd y (by omega)⟩)⟩
  · exact ⟨pk_in p 3 hp, nm_r (by rw [nI_clamp (by omega)]) (H k ⟨i1, i2, i3, fun _ => g⟩)⟩
  · refine nm_r (nI_1 k) (hw (k + 1) ⟨by omega, by omega, fun j h1 h2 => ?_⟩ ?_)
    · by_cases e : j = k + 1
      · rw [e]; exact Classical.byContradiction g
      · exact i3 j h1 (by omega)
    · show c p - (k + 1) < c p - k
      omega
theorem cw_nx {post : Int32 → St1 → Prop} (h8 : c p ≤ 8) (ha : cw_Ra c a1) (hg : cw_Rg G a2) (hp : p < 3) (k0 : Nat) (hk0 : k0 ≤ c p + 1)
    (H0 : (∀ k, k0 ≤ k → k ≤ c p → ¬ G p k) → post 0 (m, a1, a2, a3, a4, a5, a6, a7, a8, a9))
    (H1 : ∀ f t, k0 ≤ f → (∀ k, k0 ≤ k → k < f → ¬ G p k) → cw_Z c G p f t → post 1 (m, a1, a2, a3, a4, a5, a6, a7, upd a8 p (nI f), upd a9 p (nI t))) {y : Int32} (hy : y = nI k0 := by rfl) :
    wpX_nextStretch post (m, a1, a2, a3, a4, a5, a6, a7, a8, a9) (nI p) y := by
  subst hy
  have h32 : ∀ k, k0 ≤ k → k ≤ c p + 1 → (∀ j, k0 ≤ j → j < k → ¬ G p j) → (k ≤ c p → G p k) → wX_nextStretch_32 post (nI p) (nI k) m a1 a2 a3 a4 a5 a6 a7 a8 a9 := by
    intro k i1 i2 i3 i4
    unfold wX_nextStretch_32
    refine ⟨pk_in p 3 hp, pk_le k (c p) (fun z => ⟨pk_in p 3 hp, nm_r (e' := upd a8 p (nI k)) (by rw [nI_clamp (by omega)]) ?_⟩) (fun z => ?_) rfl (cw_at ha hp)⟩
    · exact cw_nx51 h8 ha hg hp z (i4 z) (fun t ht => H1 k t i1 i3 ht)
    · exact H0 (fun j h1 h2 => i3 j h1 (by omega))
  unfold wpX_nextStretch
  dsimp only
  refine loop_m (σ := Nat) (fun n k => wX_nextStretch_2 post (nI p) m a1 a2 a3 a4 a5 a6 a7 a8 a9 n (nI k))
    (fun k => k0 ≤ k ∧ k ≤ c p + 1 ∧ ∀ j, k0 ≤ j → j < k → ¬ G p j) (fun k => c p + 1 - k) ?_ k0 ⟨Nat.le_refl _, hk0, fun j h1 h2 => absurd h1 (by omega)⟩
  intro n k hI hw
  obtain ⟨i1, i2, i3⟩ := hI
  refine And.intro (pk_in p 3 hp) (pk_lt (c p) k (fun z => ?_) (fun z => ⟨cw_gin hp (by omega), ek_if (cw_gat hg hp (by omega)) (fun g => ?_) (fun g => ?_)⟩) (cw_at ha hp))
  · exact h32 k i1 i2 i3 (fun y => absurd y (by omega))
  · refine nm_r (nI_1 k) (hw (k + 1) ⟨by omega, by omega, fun j h1 h2 => ?_⟩ ?_)
    · by_cases e : j = k
      · rw [e]; exact g
      · exact i3 j h1 (by omega)
    · show c p + 1 - (k + 1) < c p + 1 - k
      omega
  · exact h32 k i1 i2 i3 (fun _ => Classical.byContradiction g)
/-- an array that holds the numbers of a set's processes -/
def cw_Rs (S : Nat) (F : Nat → Nat) (a : Nat → Int32) : Prop := ∀ p, p < 3 → S.testBit p = true → a p = nI (F p)
theorem cw_rs_at (h : cw_Rs S F a) (hp : p < 3) (hb : S.testBit p = true) : a (nI p).toNatClampNeg = nI (F p) := by
  rw [nI_clamp (by omega)]
  exact h p hp hb
def cw_cd (c : Nat → Nat) (K : Nat → Nat → Nat → Nat) (S : Nat) (F T : Nat → Nat) (p q : Nat) : Prop :=
  p ≠ q → S.testBit p = true → S.testBit q = true → T p < c p → F q ≤ K p (T p + 1) q
theorem cw_te {post : Int32 → Prop} (hW : cw_W c K) (ha : cw_Ra c a1) (hk : cw_Rk K a3) (hS : S < 8) (hF : cw_Rs S F a8) (hT : cw_Rs S T a9)
    (hb : ∀ p, p < 3 → S.testBit p = true → F p ≤ T p ∧ T p ≤ c p)
    (Hm : (∀ p q, p < 3 → q < 3 → cw_cd c K S F T p q) → post (-1))
    (Hp : ∀ p q, p < 3 → q < 3 → p ≠ q → S.testBit p = true → S.testBit q = true → T p < c p → K p (T p + 1) q < F q → post (nI p)) :
    wpX_tooEarly post (m, a1, a2, a3, a4, a5, a6, a7, a8, a9) (nI S) := by
  unfold wpX_tooEarly
  dsimp only
  refine pk_loop (σ := Unit) (fun n i _ => wX_tooEarly_2 post (nI S) m a1 a2 a3 a4 a5 a6 a7 a8 a9 n (nI i)) (fun i _ => ∀ p q, p < i → q < 3 → cw_cd c K S F T p q) 3 0 () (by omega) (fun p q hp => absurd hp (by omega)) ?_ ?_
  · intro n _ hI
    exact pk_le 3 3 (fun _ => Hm hI) (fun z => absurd z (by omega))
  · intro n i _ hi hI hw
    refine pk_le 3 i (fun z => absurd z (by omega)) (fun _ => ?_)
    refine pk_loop (σ := Unit) (fun n' j _ => wX_tooEarly_9 post (wX_tooEarly_2 post (nI S) m a1 a2 a3 a4 a5 a6 a7 a8 a9 n) (nI S) (nI i) m a1 a2 a3 a4 a5 a6 a7 a8 a9 n' (nI j)) (fun j _ => ∀ q, q < j → cw_cd c K S F T i q) 3 0 () (by omega) (fun q hq => absurd hq (by omega)) ?_ ?_
    · intro n' _ hJ
      refine pk_le 3 3 (fun _ => nm_r (nI_1 i) (hw () ?_)) (fun z => absurd z (by omega))
      intro p q hp hq
      by_cases e : p = i
      · rw [e]; exact hJ q hq
      · exact hI p q (by omega) hq
    · intro n' j _ hj hJ hw'
      have hnext : cw_cd c K S F T i j → wX_tooEarly_9 post (wX_tooEarly_2 post (nI S) m a1 a2 a3 a4 a5 a6 a7 a8 a9 n) (nI S) (nI i) m a1 a2 a3 a4 a5 a6 a7 a8 a9 n' (nI (j + 1)) := by
        intro hc
        refine hw' () (fun q hq => ?_)
        by_cases e : q = j
        · rw [e]; exact hc
        · exact hJ q (by omega)
      have h39 : cw_cd c K S F T i j → wX_tooEarly_39 post (wX_tooEarly_2 post (nI S) m a1 a2 a3 a4 a5 a6 a7 a8 a9 n) (wX_tooEarly_9 post (wX_tooEarly_2 post (nI S) m a1 a2 a3 a4 a5 a6 a7 a8 a9 n) (nI S) (nI i) m a1 a2 a3 a4 a5 a6 a7 a8 a9 n') (nI S) (nI i) (nI j) m a1 a2 a3 a4 a5 a6 a7 a8 a9 := by
        intro hc
        unfold wX_tooEarly_39 wX_tooEarly_40
        exact br_t rfl (nm_r (nI_1 j) (hnext hc))
      refine pk_le 3 j (fun z => absurd z (by omega)) (fun _ => pk_eq i j (fun e => h39 (fun z => absurd e z)) (fun ne => ek_if (cw_sb S hS i hi) (fun b => h39 (fun _ z => absurd (b.symm.trans z) (by decide)))
        (fun b => ek_if (cw_sb S hS j hj) (fun b' => h39 (fun _ _ z => absurd (b'.symm.trans z) (by decide))) (fun b' => ?_))))
      have bi := cw_nt b
      have bj := cw_nt b'
      have hbi := hb i hi bi
      have hbj := hb j hj bj
      have hc8 := hW.1 i hi
      have hc8' := hW.1 j hj
      unfold wX_tooEarly_40
      refine br_f (by decide) ⟨pk_in i 3 hi, pk_in i 3 hi, pk_le (c i) (T i) (fun z => nm_r (nI_1 j) (hnext (fun _ _ _ y => absurd y (by omega)))) (fun z => ⟨pk_in i 3 hi, ?_⟩) (cw_at ha hi) (cw_rs_at hT hi bi)⟩
      have hKb := hW.2.1 i (T i + 1) j hi hj (by omega)
      refine cw_kb hk i (T i + 1) j hi (by omega) hj (And.intro (pk_in j 3 hj) (pk_le (F j) (K i (T i + 1) j) (fun y => nm_r (nI_1 j) (hnext (fun _ _ _ _ => y))) (fun y => Hp i j hi hj ne bi bj z y) (cw_rs_at hF hj bj))) rfl (by rw [cw_rs_at hT hi bi, nI_1]) rfl
/-- the state of the search for stretches -/
def cw_Q (c : Nat → Nat) (G : Nat → Nat → Prop) (K : Nat → Nat → Nat → Nat) (S i : Nat) (F T : Nat → Nat) (a8 a9 : Nat → Int32) : Prop :=
  (∀ p, p < i → S.testBit p = true → a8 p = nI (F p) ∧ a9 p = nI (T p) ∧ cw_Z c G p (F p) (T p) ∧ ∀ F' T', cw_D c G K S F' T' → F p ≤ F' p) ∧ (∀ p, S.testBit p = false → F p = 0)
/-- one process takes a next stretch -/
theorem cw_Qup {i t : Nat} {b8 b9 : Nat → Int32} (h : ∀ q, q < i → q ≠ p → S.testBit q = true → b8 q = nI (F q) ∧ b9 q = nI (T q) ∧ cw_Z c G q (F q) (T q) ∧ ∀ F' T', cw_D c G K S F' T' → F q ≤ F' q)
    (h0 : ∀ p, S.testBit p = false → F p = 0) (hb : S.testBit p = true) (hZ : cw_Z c G p f t) (hl : ∀ F' T', cw_D c G K S F' T' → f ≤ F' p) :
    cw_Q c G K S i (fun q => if q = p then f else F q) (fun q => if q = p then t else T q) (upd b8 p (nI f)) (upd b9 p (nI t)) := by
  refine ⟨fun q hq hbq => ?_, fun q hq => ?_⟩
  · dsimp only
    by_cases e : q = p
    · rw [if_pos e, if_pos e, e, pk_us, pk_us]
      exact ⟨rfl, rfl, hZ, hl⟩
    · rw [if_neg e, if_neg e, pk_un e, pk_un e]
      exact h q hq e hbq
  · dsimp only
    by_cases e : q = p
    · rw [e, hb] at hq
      exact absurd hq (by decide)
    · rw [if_neg e]
      exact h0 q hq
theorem cw_sm36 {post : Int32 → St1 → Prop} (hW : cw_W c K) (ha : cw_Ra c a1) (hg : cw_Rg G a2) (hk : cw_Rk K a3) (hS : S < 8) (hQ : cw_Q c G K S 3 F T a8 a9)
    (H0 : (∀ F' T', ¬ cw_D c G K S F' T') → ∀ a8' a9', post 0 (m, a1, a2, a3, a4, a5, a6, a7, a8', a9'))
    (H1 : ∀ F' T', cw_D c G K S F' T' → ∀ a8' a9', post 1 (m, a1, a2, a3, a4, a5, a6, a7, a8', a9')) :
    ∃ n, wX_stretchesMeet_36 post (nI S) n 1 0 m a1 a2 a3 a4 a5 a6 a7 a8 a9 := by
  refine loop_m (σ := Int32 × Nat × (Nat → Int32) × (Nat → Int32)) (fun n s => wX_stretchesMeet_36 post (nI S) n s.1 (nI s.2.1) m a1 a2 a3 a4 a5 a6 a7 s.2.2.1 s.2.2.2)
    (fun s => s.2.1 ≤ 20 ∧ ∃ F T : Nat → Nat, cw_Q c G K S 3 F T s.2.2.1 s.2.2.2 ∧ ((s.1 = 0 ∧ cw_D c G K S F T) ∨ (s.1 = 1 ∧ 2 * s.2.1 ≤ F 0 + F 1 + F 2)))
    (fun s => 20 - s.2.1) ?_ (1, 0, a8, a9) ⟨Nat.zero_le _, F, T, hQ, Or.inr ⟨rfl, Nat.zero_le _⟩⟩
  intro n s hI hw
  obtain ⟨ch, j, b8, b9⟩ := s
  obtain ⟨hj, F, T, hQ, hch⟩ := hI
  dsimp only at hj hQ hch
  have hq := hQ
  obtain ⟨q1, q2⟩ := hQ
  have hF8 : ∀ p, p < 3 → F p ≤ 8 := by
    intro p hp
    have h8 := hW.1 p hp
    by_cases hb : S.testBit p = true
    · have z := (q1 p hp hb).2.2.1
      have z1 := z.1
      have z2 := z.2.1
      omega
    · rw [q2 p (cw_nf hb)]; omega
  have f0 := hF8 0 (by omega)
  have f1 := hF8 1 (by omega)
  have f2 := hF8 2 (by omega)
  have hend : ch = 0 → post 1 (m, a1, a2, a3, a4, a5, a6, a7, b8, b9) := by
    intro e
    rcases hch with ⟨_, c2⟩ | ⟨c1, _⟩
    · exact H1 F T c2 b8 b9
    · exact absurd (e.symm.trans c1) (by decide)
  refine pk_le 20 j (fun z => hend ?_) (fun z => br_c hend (fun e => ?_))
  · rcases hch with ⟨c1, _⟩ | ⟨_, c2⟩
    · exact c1
    · omega
  · have c2 : 2 * j ≤ F 0 + F 1 + F 2 := by
      rcases hch with ⟨c1, _⟩ | ⟨_, c2⟩
      · exact absurd c1 e
      · exact c2
    refine cw_te hW ha hk hS (fun p hp hb => (q1 p hp hb).1) (fun p hp hb => (q1 p hp hb).2.1) (fun p hp hb => ⟨(q1 p hp hb).2.2.1.1, (q1 p hp hb).2.2.1.2.1⟩) (fun hm => ?_) (fun p q hp hq' hne hbp hbq htp hlt => ?_)
    · refine br_t (by decide) ?_
      unfold wX_stretchesMeet_63
      refine br_t rfl (nm_r (nI_1 j) (hw (0, j + 1, b8, b9) ⟨z, F, T, hq, Or.inl ⟨rfl, fun p hp hb => (q1 p hp hb).2.2.1, hm⟩⟩ ?_))
      dsimp only
      omega
    · have h8 := hW.1 p hp
      have hZ := (q1 p hp hbp).2.2.1
      have hlate : ∀ F' T', cw_D c G K S F' T' → T p + 1 ≤ F' p := by
        intro F' T' hD
        have l1 := (q1 p hp hbp).2.2.2 F' T' hD
        have l2 := (q1 q hq' hbq).2.2.2 F' T' hD
        have hZ' := hD.1 p hp hbp
        rcases Nat.lt_or_ge (T p) (F' p) with y | y
        · exact y
        · exfalso
          have eT : T' p = T p := by
            rcases Nat.lt_trichotomy (T' p) (T p) with w | w | w
            · exact absurd (hZ.2.2.1 (T' p + 1) (by have := hZ'.1; omega) (by omega)) (hZ'.2.2.2 (by omega))
            · exact w
            · exact absurd (hZ'.2.2.1 (T p + 1) (by omega) (by omega)) (hZ.2.2.2 htp)
          have g := hD.2 p q hp hq' hne hbp hbq (by rw [eT]; exact htp)
          rw [eT] at g
          omega
      refine br_f (nI_pos (by omega)) ?_
      unfold wX_stretchesMeet_63
      refine br_f (by decide) ⟨pk_in p 3 hp, cw_nx h8 ha hg hp (T p + 1) (by omega) (fun hno => ?_) (fun f t h1 h2 hZn => ?_) (by dsimp only; rw [nI_clamp (by omega), (q1 p hp hbp).2.1, nI_1])⟩
      · refine br_t rfl (H0 (fun F' T' hD => ?_) b8 b9)
        have l1 := hlate F' T' hD
        have hZ' := hD.1 p hp hbp
        exact hno (F' p) l1 (Nat.le_trans hZ'.1 hZ'.2.1) (hZ'.2.2.1 (F' p) (Nat.le_refl _) hZ'.1)
      · refine br_f (by decide) (nm_r (nI_1 j) (hw (1, j + 1, upd b8 p (nI f), upd b9 p (nI t)) ⟨z, fun q => if q = p then f else F q, fun q => if q = p then t else T q, ?_, Or.inr ⟨rfl, ?_⟩⟩ ?_))
        · refine cw_Qup (fun q hq _ hb => q1 q hq hb) q2 hbp hZn (fun F' T' hD => ?_)
          have l1 := hlate F' T' hD
          have hZ' := hD.1 p hp hbp
          rcases Nat.lt_or_ge (F' p) f with y | y
          · exact absurd (hZ'.2.2.1 (F' p) (Nat.le_refl _) hZ'.1) (h2 (F' p) l1 y)
          · exact y
        · have hf : T p + 2 ≤ f := by
            have ng := hZ.2.2.2 htp
            rcases Nat.lt_or_ge f (T p + 2) with y | y
            · have ef : f = T p + 1 := by omega
              exact absurd (hZn.2.2.1 f (Nat.le_refl _) hZn.1) (by rw [ef]; exact ng)
            · exact y
          have hFT := hZ.1
          dsimp only
          have ep : p = 0 ∨ p = 1 ∨ p = 2 := by omega
          rcases ep with ep | ep | ep <;> subst ep
          · rw [if_pos rfl, if_neg (by omega), if_neg (by omega)]; omega
          · rw [if_neg (by omega), if_pos rfl, if_neg (by omega)]; omega
          · rw [if_neg (by omega), if_neg (by omega), if_pos rfl]; omega
        · dsimp only
          omega
theorem cw_sm {post : Int32 → St1 → Prop} (hW : cw_W c K) (ha : cw_Ra c a1) (hg : cw_Rg G a2) (hk : cw_Rk K a3) (hS : S < 8)
    (H0 : (∀ F' T', ¬ cw_D c G K S F' T') → ∀ a8' a9', post 0 (m, a1, a2, a3, a4, a5, a6, a7, a8', a9'))
    (H1 : ∀ F' T', cw_D c G K S F' T' → ∀ a8' a9', post 1 (m, a1, a2, a3, a4, a5, a6, a7, a8', a9')) :
    wpX_stretchesMeet post (m, a1, a2, a3, a4, a5, a6, a7, a8, a9) (nI S) := by
  unfold wpX_stretchesMeet
  dsimp only
  refine pk_loop (σ := (Nat → Int32) × (Nat → Int32)) (fun n i s => wX_stretchesMeet_2 post (nI S) n (nI i) m a1 a2 a3 a4 a5 a6 a7 s.1 s.2) (fun i s => ∃ F T : Nat → Nat, cw_Q c G K S i F T s.1 s.2) 3 0 (a8, a9) (by omega)
    ⟨fun _ => 0, fun _ => 0, fun p hp => absurd hp (by omega), fun _ _ => rfl⟩ ?_ ?_
  · intro n s hI
    obtain ⟨F, T, hQ⟩ := hI
    exact pk_le 3 3 (fun _ => cw_sm36 hW ha hg hk hS hQ H0 H1) (fun z => absurd z (by omega))
  · intro n i s hi hI hw
    obtain ⟨b8, b9⟩ := s
    obtain ⟨F, T, q1, q2⟩ := hI
    have h8 := hW.1 i hi
    refine pk_le 3 i (fun z => absurd z (by omega)) (fun _ => ek_if (cw_sb S hS i hi) (fun b => nm_r (nI_1 i) (hw (b8, b9) ⟨F, T, fun p hp hb => ?_, q2⟩)) (fun b => ?_))
    · by_cases e : p = i
      · rw [e, b] at hb
        exact absurd hb (by decide)
      · exact q1 p (by omega) hb
    · have bi := cw_nt b
      refine cw_nx h8 ha hg hi 0 (by omega) (fun hno => ?_) (fun f t h1 h2 hZn => ?_)
      · refine br_t rfl (H0 (fun F' T' hD => ?_) b8 b9)
        have hZ' := hD.1 i hi bi
        exact hno (F' i) (Nat.zero_le _) (Nat.le_trans hZ'.1 hZ'.2.1) (hZ'.2.2.1 (F' i) (Nat.le_refl _) hZ'.1)
      · refine br_f (by decide) (nm_r (nI_1 i) (hw (upd b8 i (nI f), upd b9 i (nI t)) ⟨fun q => if q = i then f else F q, fun q => if q = i then t else T q, ?_⟩))
        refine cw_Qup (fun q hq hne hb => q1 q (by omega) hb) q2 bi hZn (fun F' T' hD => ?_)
        have hZ' := hD.1 i hi bi
        rcases Nat.lt_or_ge (F' i) f with y | y
        · exact absurd (hZ'.2.2.1 (F' i) (Nat.le_refl _) hZ'.1) (h2 (F' i) (Nat.zero_le _) y)
        · exact y
theorem cw_def {post : Int32 → St1 → Prop} (hW : cw_W c K) (ha : cw_Ra c a1) (hg : cw_Rg G a2) (hk : cw_Rk K a3) (h1 : 1 ≤ S) (hS : S < 8)
    (H : ∀ r a8' a9', cw_ans (cw_DD c G K S) r → post r (m, a1, a2, a3, a4, a5, a6, a7, a8', a9')) :
    wpX_definitely post (m, a1, a2, a3, a4, a5, a6, a7, a8, a9) (nI S) := by
  unfold wpX_definitely
  dsimp only
  refine pk_lt S 1 (fun z => absurd z (by omega)) (fun _ => pk_le S 7 (fun _ => ?_) (fun z => absurd z (by omega)))
  refine cw_sm hW ha hg hk hS (fun hn b8 b9 => ?_) (fun F' T' hD b8 b9 => ?_)
  · exact br_t rfl (H 0 b8 b9 (Or.inr ⟨rfl, fun z => by obtain ⟨F', T', hD⟩ := z; exact hn F' T' hD⟩))
  · exact br_f (by decide) (H 1 b8 b9 (Or.inl ⟨rfl, F', T', hD⟩))
end
end
section
/-! the law's own methods, and cuts -/
section
variable {m : Int32} {a a1 a2 a3 a4 a5 a6 a7 a8 a9 : Nat → Int32} {c : Nat → Nat} {G : Nat → Nat → Prop} {K : Nat → Nat → Nat → Nat} {p q s i j S : Nat}
theorem cw_ans_le {Q Q' : Prop} {r r' : Int32} (h : cw_ans Q r) (h' : cw_ans Q' r') (hi : Q → Q') : r ≤ r' ∧ ¬ r' < r := by
  rcases h with ⟨e, h⟩ | ⟨e, h⟩ <;> rcases h' with ⟨e', h'⟩ | ⟨e', h'⟩
  · rw [e, e']; decide
  · exact absurd (hi h) h'
  · rw [e, e']; decide
  · rw [e, e']; decide
theorem cw_ans_01 {Q : Prop} {r : Int32} (h : cw_ans Q r) : (r = 1 ∨ r = 0) ∧ ¬ r < 0 ∧ ¬ 1 < r := by
  rcases h with ⟨e, h⟩ | ⟨e, h⟩
  · rw [e]; decide
  · rw [e]; decide
theorem cw_ans_t {Q : Prop} {r : Int32} (h : cw_ans Q r) (hq : Q) : r = 1 := h.elim (fun z => z.1) (fun z => absurd hq z.2)
theorem cw_ans_f {Q : Prop} {r : Int32} (h : cw_ans Q r) (hq : ¬ Q) : r = 0 := h.elim (fun z => absurd z.2 hq) (fun z => z.1)
theorem cw_ans_q {Q : Prop} (h : cw_ans Q 1) : Q := h.elim (fun z => z.2) (fun z => absurd z.1 (by decide))
theorem cw_set56 {post : Int32 → St1 → Prop} {J : Int32 → Int32 → (Nat → Int32) → (Nat → Int32) → (Nat → Int32) → (Nat → Int32) → (Nat → Int32) → (Nat → Int32) → (Nat → Int32) → (Nat → Int32) → (Nat → Int32) → Prop} {x1 rp rd : Int32}
    (hW : cw_W c K) (ha : cw_Ra c a1) (hg : cw_Rg G a2) (hk : cw_Rk K a3) (hs : s < 8) (hp : cw_ans (cw_PP c G K s) rp) (hd : cw_ans (cw_DD c G K s) rd)
    (HJ : ∀ a7' a8' a9', J (nI (s + 1)) m a1 a2 a3 a4 a5 a6 a7' a8' a9') :
    ∃ n, wL_sets_56 post J x1 (nI s) rp rd n 1 m a1 a2 a3 a4 a5 a6 a7 a8 a9 := by
  refine pk_loop (σ := (Nat → Int32) × (Nat → Int32) × (Nat → Int32)) (fun n i b => wL_sets_56 post J x1 (nI s) rp rd n (nI i) m a1 a2 a3 a4 a5 a6 b.1 b.2.1 b.2.2) (fun i _ => 1 ≤ i) 8 1 (a7, a8, a9) (by omega) (Nat.le_refl 1) ?_ ?_
  · intro n b _
    exact pk_le 8 8 (fun _ => nm_r (nI_1 s) (HJ _ _ _)) (fun z => absurd z (by omega))
  · intro n i b hi h1 hw
    refine pk_le 8 i (fun z => absurd z (by omega)) (fun _ => br_c (fun e => ?_) (fun _ => nm_r (nI_1 i) (hw b (Nat.le_succ_of_le h1))))
    have hsub := cw_sub s hs i hi e
    refine cw_pos hW ha hg hk h1 hi (fun r b7 hr => ?_)
    refine br_f (cw_ans_le hr hp (cw_Psub hsub)).2 ?_
    refine cw_def hW ha hg hk h1 hi (fun r' b8 b9 hr' => ?_)
    exact br_t (cw_ans_le hr' hd (cw_Dsub hsub)).1 (nm_r (nI_1 i) (hw (b7, b8, b9) (Nat.le_succ_of_le h1)))
theorem cw_sets {post : Int32 → St1 → Prop} {x1 : Int32} (hW : cw_W c K) (ha : cw_Ra c a1) (hg : cw_Rg G a2) (hk : cw_Rk K a3)
    (hbf : ∀ s, 1 ≤ s → s < 8 → cw_bt x1 s → cw_PP c G K s)
    (H : ∀ a7' a8' a9', post 1 (m, a1, a2, a3, a4, a5, a6, a7', a8', a9')) :
    wpL_sets post (m, a1, a2, a3, a4, a5, a6, a7, a8, a9) x1 := by
  unfold wpL_sets
  dsimp only
  refine pk_loop (σ := (Nat → Int32) × (Nat → Int32) × (Nat → Int32)) (fun n i b => wL_sets_2 post x1 n (nI i) m a1 a2 a3 a4 a5 a6 b.1 b.2.1 b.2.2) (fun i _ => 1 ≤ i) 8 1 (a7, a8, a9) (by omega) (Nat.le_refl 1) ?_ ?_
  · intro n b _
    exact pk_le 8 8 (fun _ => H _ _ _) (fun z => absurd z (by omega))
  · intro n i b hi h1 hw
    refine pk_le 8 i (fun z => absurd z (by omega)) (fun _ => ?_)
    refine cw_pos hW ha hg hk h1 hi (fun r b7 hr => ?_)
    refine cw_def hW ha hg hk h1 hi (fun r' b8 b9 hr' => ?_)
    have h56 : ∃ fu, wL_sets_56 post (wL_sets_2 post x1 n) x1 (nI i) r r' fu 1 m a1 a2 a3 a4 a5 a6 b7 b8 b9 :=
      cw_set56 hW ha hg hk hi hr hr' (fun b7' b8' b9' => hw (b7', b8', b9') (Nat.le_succ_of_le h1))
    refine br_f (cw_ans_le hr' hr (cw_DP hW (cw_sne hi h1))).2 (br_f (cw_ans_01 hr').2.1 (br_f (cw_ans_01 hr).2.2 (br_c (fun e => ?_) (fun _ => h56))))
    exact br_t (cw_ans_t hr (hbf i h1 hi e)) h56
/-- the law's mask of the good states of p holds them all -/
def cw_mk (c : Nat → Nat) (G : Nat → Nat → Prop) (p : Nat) (x : Int32) : Prop := ∀ k, k ≤ c p → G p k → cw_bt x k
theorem cw_least {post : Int32 → St1 → Prop} {g0 g1 g2 : Int32} (hW : cw_W c K) (ha : cw_Ra c a1) (hg : cw_Rg G a2) (hk : cw_Rk K a3) (h1 : 1 ≤ S) (hS : S < 8)
    (m0 : cw_mk c G 0 g0) (m1 : cw_mk c G 1 g1) (m2 : cw_mk c G 2 g2)
    (H : ∀ a7', post 1 (m, a1, a2, a3, a4, a5, a6, a7', a8, a9)) :
    wpL_least post (m, a1, a2, a3, a4, a5, a6, a7, a8, a9) (nI S) g0 g1 g2 := by
  unfold wpL_least
  dsimp only
  refine cw_lea hW ha hg hk h1 hS 0 (by omega) (fun hn b7 => ?_) (fun X b7 hL => ?_)
  · refine cw_lea hW ha hg hk h1 hS 1 (by omega) (fun _ b7 => ?_) (fun X _ hL => absurd hL.1 (hn X))
    refine cw_lea hW ha hg hk h1 hS 2 (by omega) (fun _ b7 => ?_) (fun X _ hL => absurd hL.1 (hn X))
    refine cw_pos hW ha hg hk h1 hS (fun r b7 hr => ?_)
    exact br_t (cw_ans_f hr (fun z => Exists.elim z hn)) (br_t rfl (br_t rfl (br_t rfl (H b7))))
  · refine cw_lea hW ha hg hk h1 hS 1 (by omega) (fun hn b7 => absurd hL.1 (hn X)) (fun X1 b7 hL1 => ?_)
    refine cw_lea hW ha hg hk h1 hS 2 (by omega) (fun hn b7 => absurd hL.1 (hn X)) (fun X2 b7 hL2 => ?_)
    refine cw_pos hW ha hg hk h1 hS (fun r b7 hr => ?_)
    rw [cw_Luniq hL1 hL (p := 1) (by omega), cw_Luniq hL2 hL (p := 2) (by omega)]
    have er : r = 1 := cw_ans_t hr ⟨X, hL.1⟩
    obtain ⟨p0, p1, p2⟩ : _ ∧ _ ∧ _ := ⟨hL.1 0 (by omega), hL.1 1 (by omega), hL.1 2 (by omega)⟩
    have c0 := hW.1 0 (by omega)
    have c1 := hW.1 1 (by omega)
    have c2 := hW.1 2 (by omega)
    have x0 := p0.1
    have x1 := p1.1
    have x2 := p2.1
    have k01 := p1.2.2 0 (by omega)
    have k02 := p2.2.2 0 (by omega)
    have k10 := p0.2.2 1 (by omega)
    have k12 := p2.2.2 1 (by omega)
    have k20 := p0.2.2 2 (by omega)
    have k21 := p1.2.2 2 (by omega)
    have h185 : wL_least_185 post (nI S) g2 (nI (X 2)) m a1 a2 a3 a4 a5 a6 b7 a8 a9 := by
      unfold wL_least_185
      exact ek_if (cw_s4 S hS) (fun _ => H b7) (fun b => br_t (m2 (X 2) x2 (p2.2.1 (cw_nt b))) (H b7))
    have h169 : wL_least_169 post (nI S) g1 g2 (nI (X 1)) (nI (X 2)) m a1 a2 a3 a4 a5 a6 b7 a8 a9 := by
      unfold wL_least_169
      exact ek_if (cw_s2 S hS) (fun _ => h185) (fun b => br_t (m1 (X 1) x1 (p1.2.1 (cw_nt b))) h185)
    refine br_f (by rw [er]; decide) (br_f (nI_pos (by omega)) (br_f (nI_pos (by omega)) (br_f (nI_pos (by omega)) ?_)))
    refine cw_kn ha hk 0 (X 0) 1 (by omega) x0 c0 (by omega) (br_f (nI_nlt k01 (by omega)) ?_)
    refine cw_kn ha hk 0 (X 0) 2 (by omega) x0 c0 (by omega) (br_f (nI_nlt k02 (by omega)) ?_)
    refine cw_kn ha hk 1 (X 1) 0 (by omega) x1 c1 (by omega) (br_t (nI_le k10 (by omega)) ?_)
    refine cw_kn ha hk 1 (X 1) 2 (by omega) x1 c1 (by omega) (br_f (nI_nlt k12 (by omega)) ?_)
    refine cw_kn ha hk 2 (X 2) 0 (by omega) x2 c2 (by omega) (br_f (nI_nlt k20 (by omega)) ?_)
    refine cw_kn ha hk 2 (X 2) 1 (by omega) x2 c2 (by omega) (br_t (nI_le k21 (by omega)) ?_)
    exact ek_if (cw_s1 S hS) (fun _ => h169) (fun b => br_t (m0 (X 0) x0 (p0.2.1 (cw_nt b))) h169)
theorem cw_known {post : Int32 → Prop} (hW : cw_W c K) (ha : cw_Ra c a1) (hk : cw_Rk K a3) (hp : p < 3) (hq : q < 3) (H : post 1) :
    wpL_known post (m, a1, a2, a3, a4, a5, a6, a7, a8, a9) (nI p) (nI q) := by
  have h8 := hW.1 p hp
  have h8q := hW.1 q hq
  unfold wpL_known
  dsimp only
  refine cw_ev ha p hp ?_
  refine pk_loop (σ := Nat) (fun n i l => wL_known_12 post (nI p) (nI q) (nI (c p)) m a1 a2 a3 a4 a5 a6 a7 a8 a9 n (nI l) (nI i)) (fun i l => l ≤ 8 ∧ ∀ j, i ≤ j → j ≤ c p → l ≤ K p j q) (c p + 1) 0 0 (by omega) ⟨by omega, fun _ _ _ => Nat.zero_le _⟩ ?_ ?_
  · intro n l _
    exact pk_lt (c p) (c p + 1) (fun _ => H) (fun z => absurd z (by omega))
  · intro n i l hi hI hw
    obtain ⟨hl, hI⟩ := hI
    have hKq := hW.2.1 p i q hp hq (by omega)
    have hlK := hI i (Nat.le_refl _) (by omega)
    have h47 : wL_known_47 post (wL_known_12 post (nI p) (nI q) (nI (c p)) m a1 a2 a3 a4 a5 a6 a7 a8 a9 n) (nI p) (nI q) (nI (c p)) (nI i) (nI (K p i q)) m a1 a2 a3 a4 a5 a6 a7 a8 a9 := by
      unfold wL_known_47
      refine cw_ev ha q hq (br_t (nI_le hKq (by omega)) (nm_r (nI_1 i) (hw (K p i q) ⟨by omega, fun j h1 h2 => ?_⟩)))
      exact cw_mono' hW hp hq (by omega) h2
    refine pk_lt (c p) i (fun z => absurd z (by omega)) (fun _ => cw_kn ha hk p i q hp (by omega) h8 hq (br_f (nI_nlt hlK (by omega)) (pk_eq p q (fun e => br_t ?_ h47) (fun _ => h47))))
    rw [← e, hW.2.2.1 p i hp (by omega)]
theorem cw_add0 (n : Nat) : nI n + 0 = nI n := by
  show nI n + nI 0 = nI n
  rw [nI_add]
  rfl
theorem cw_th38 {post : Int32 → Prop} (hW : cw_W c K) (ha : cw_Ra c a1) (hk : cw_Rk K a3) (hi : i ≤ c 0) (hj : j ≤ c 1) (h01 : K 0 i 1 ≤ j) (h10 : K 1 j 0 ≤ i) {lo : Nat} (hlo : lo ≤ c 2)
    (hl : ∀ k, lo ≤ k ↔ K 0 i 2 ≤ k ∧ K 1 j 2 ≤ k) (H : post (nI (cw_N3 c K i j))) :
    ∃ n, wX_thirdStates_38 post (nI i) (nI j) m a1 a2 a3 a4 a5 a6 a7 a8 a9 n 0 (nI lo) := by
  have c0 := hW.1 0 (by omega)
  have c1 := hW.1 1 (by omega)
  have c2 := hW.1 2 (by omega)
  refine pk_loop (σ := Nat) (fun n k s => wX_thirdStates_38 post (nI i) (nI j) m a1 a2 a3 a4 a5 a6 a7 a8 a9 n (nI s) (nI k)) (fun k s => lo ≤ k ∧ s = cw_S (fun k => cw_I c K i j k) k) (c 2 + 1) lo 0 (by omega)
    ⟨Nat.le_refl _, (cw_S_z lo (fun k hk => cw_I_f (fun z => absurd ((hl k).mpr ⟨z.2.2.2.2.2.1, z.2.2.2.2.2.2.1⟩) (by omega)))).symm⟩ ?_ ?_
  · intro n s hI
    refine pk_lt (c 2) (c 2 + 1) (fun _ => ?_) (fun z => absurd z (by omega)) (ha 2 (by omega))
    rw [hI.2, ← cw_N3_e c2]
    exact H
  · intro n k s hkl hI hw
    obtain ⟨hlk, es⟩ := hI
    have b0 := hW.2.1 2 k 0 (by omega) (by omega) (by omega)
    have b1 := hW.2.1 2 k 1 (by omega) (by omega) (by omega)
    have hlk' := (hl k).mp hlk
    have step : ∀ v, v = cw_I c K i j k → wX_thirdStates_38 post (nI i) (nI j) m a1 a2 a3 a4 a5 a6 a7 a8 a9 n (nI (s + v)) (nI (k + 1)) := by
      intro v hv
      refine hw (s + v) ⟨by omega, ?_⟩
      rw [es, hv]
      rfl
    refine pk_lt (c 2) k (fun z => absurd z (by omega)) (fun _ => cw_kb hk 2 k 0 (by omega) (by omega) (by omega) ?_) (ha 2 (by omega))
    refine pk_lt i (K 2 k 0) (fun z => nm_r (cw_add0 s) (nm_r (nI_1 k) (step 0 ?_))) (fun z => cw_kb hk 2 k 1 (by omega) (by omega) (by omega) ?_)
    · exact (cw_I_f (fun y => absurd y.2.2.2.2.2.2.2.1 (by omega))).symm
    · refine pk_lt j (K 2 k 1) (fun z' => nm_r (cw_add0 s) (nm_r (nI_1 k) (step 0 ?_))) (fun z' => nm_r (nI_1 s) (nm_r (nI_1 k) (step 1 ?_)))
      · exact (cw_I_f (fun y => absurd y.2.2.2.2.2.2.2.2 (by omega))).symm
      · exact (cw_I_t ⟨hi, hj, by omega, h01, h10, hlk'.1, hlk'.2, z, z'⟩).symm
theorem cw_th {post : Int32 → Prop} (hW : cw_W c K) (ha : cw_Ra c a1) (hk : cw_Rk K a3) (hi : i ≤ c 0) (hj : j ≤ c 1) (h01 : K 0 i 1 ≤ j) (h10 : K 1 j 0 ≤ i) (H : post (nI (cw_N3 c K i j))) :
    wpX_thirdStates post (m, a1, a2, a3, a4, a5, a6, a7, a8, a9) (nI i) (nI j) := by
  have c0 := hW.1 0 (by omega)
  have c1 := hW.1 1 (by omega)
  have c2 := hW.1 2 (by omega)
  have b0 := hW.2.1 0 i 2 (by omega) (by omega) hi
  have b1 := hW.2.1 1 j 2 (by omega) (by omega) hj
  unfold wpX_thirdStates
  dsimp only
  refine cw_kb hk 0 i 2 (by omega) (by omega) (by omega) ?_
  refine cw_kb hk 1 j 2 (by omega) (by omega) (by omega) ?_
  have hA : K 0 i 2 ≤ K 1 j 2 → ∃ n, wX_thirdStates_38 post (nI i) (nI j) m a1 a2 a3 a4 a5 a6 a7 a8 a9 n 0 (nI (K 1 j 2)) :=
    fun z => cw_th38 (lo := K 1 j 2) hW ha hk hi hj h01 h10 b1 (fun k => ⟨fun y => ⟨Nat.le_trans z y, y⟩, fun y => y.2⟩) H
  have hB : K 1 j 2 < K 0 i 2 → ∃ n, wX_thirdStates_38 post (nI i) (nI j) m a1 a2 a3 a4 a5 a6 a7 a8 a9 n 0 (nI (K 0 i 2)) :=
    fun z => cw_th38 (lo := K 0 i 2) hW ha hk hi hj h01 h10 b0 (fun k => ⟨fun y => ⟨y, Nat.le_trans (Nat.le_of_lt z) y⟩, fun y => y.1⟩) H
  exact pk_le (K 0 i 2) (K 1 j 2) hA hB
theorem cw_cuts {post : Int32 → Prop} (hW : cw_W c K) (ha : cw_Ra c a1) (hk : cw_Rk K a3) (H : post (nI (cw_N c K))) :
    wpX_cuts post (m, a1, a2, a3, a4, a5, a6, a7, a8, a9) := by
  have c0 := hW.1 0 (by omega)
  have c1 := hW.1 1 (by omega)
  have c2 := hW.1 2 (by omega)
  unfold wpX_cuts
  dsimp only
  refine pk_loop (σ := Nat) (fun n i s => wX_cuts_4 post m a1 a2 a3 a4 a5 a6 a7 a8 a9 n (nI s) (nI i)) (fun i s => s = cw_S (fun i => cw_N2 c K i) i) (c 0 + 1) 0 0 (by omega) rfl ?_ ?_
  · intro n s hI
    refine pk_lt (c 0) (c 0 + 1) (fun _ => ?_) (fun z => absurd z (by omega)) (ha 0 (by omega))
    rw [hI, ← cw_N_e c0]
    exact H
  · intro n i s hi hI hw
    refine pk_lt (c 0) i (fun z => absurd z (by omega)) (fun _ => ?_) (ha 0 (by omega))
    refine pk_loop (σ := Nat) (fun n' j t => wX_cuts_16 post (wX_cuts_4 post m a1 a2 a3 a4 a5 a6 a7 a8 a9 n) (nI i) m a1 a2 a3 a4 a5 a6 a7 a8 a9 n' (nI t) (nI j)) (fun j t => t = s + cw_S (fun j => cw_N3 c K i j) j) (c 1 + 1) 0 s (by omega) rfl ?_ ?_
    · intro n' t hJ
      refine pk_lt (c 1) (c 1 + 1) (fun _ => nm_r (nI_1 i) (hw t ?_)) (fun z => absurd z (by omega)) (ha 1 (by omega))
      rw [hJ, ← cw_N2_e c1, hI]
      rfl
    · intro n' j t hj hJ hw'
      have b0 := hW.2.1 0 i 1 (by omega) (by omega) (by omega)
      have b1 := hW.2.1 1 j 0 (by omega) (by omega) (by omega)
      have step : ∀ v, v = cw_N3 c K i j → wX_cuts_16 post (wX_cuts_4 post m a1 a2 a3 a4 a5 a6 a7 a8 a9 n) (nI i) m a1 a2 a3 a4 a5 a6 a7 a8 a9 n' (nI (t + v)) (nI (j + 1)) := by
        intro v hv
        refine hw' (t + v) ?_
        rw [hJ, hv]
        show _ = s + (cw_S (fun j => cw_N3 c K i j) j + cw_N3 c K i j)
        omega
      refine pk_lt (c 1) j (fun z => absurd z (by omega)) (fun _ => cw_kb hk 0 i 1 (by omega) (by omega) (by omega) ?_) (ha 1 (by omega))
      refine pk_lt j (K 0 i 1) (fun z => nm_r (nI_1 j) (step 0 ?_)) (fun z => cw_kb hk 1 j 0 (by omega) (by omega) (by omega) ?_)
      · exact (cw_S_z 9 (fun k _ => cw_I_f (fun y => absurd y.2.2.2.1 (by omega)))).symm
      · refine pk_lt i (K 1 j 0) (fun z' => nm_r (nI_1 j) (step 0 ?_)) (fun z' => cw_th hW ha hk (by omega) (by omega) z z' ?_)
        · exact (cw_S_z 9 (fun k _ => cw_I_f (fun y => absurd y.2.2.2.2.1 (by omega)))).symm
        · exact nm_r (nI_add t _) (nm_r (nI_1 j) (step _ rfl))
end
end
section
/-! the law's loop -/
abbrev cw_JT : Type := Int32 → Int32 → Int32 → Int32 → Int32 → Int32 → (Nat → Int32) → (Nat → Int32) → (Nat → Int32) → (Nat → Int32) → (Nat → Int32) → (Nat → Int32) → (Nat → Int32) → (Nat → Int32) → (Nat → Int32) → Prop
/-- good cuts that the law has seen are there -/
def cw_bf (c : Nat → Nat) (G : Nat → Nat → Prop) (K : Nat → Nat → Nat → Nat) (x : Int32) : Prop := ∀ s, 1 ≤ s → s < 8 → cw_bt x s → cw_PP c G K s
/-- the law's invariant -/
def cw_Inv (x2 x3 x4 x5 m : Int32) (a1 a2 a3 a4 a5 : Nat → Int32) : Prop :=
  ∃ (c : Nat → Nat) (G : Nat → Nat → Prop) (K : Nat → Nat → Nat → Nat) (M : Nat), cw_T c G K M m a1 a2 a3 a4 a5 ∧ cw_mk c G 0 x2 ∧ cw_mk c G 1 x3 ∧ cw_mk c G 2 x4 ∧ cw_bf c G K x5
def cw_HJ (J : cw_JT) (j : Nat) : Prop := ∀ x2 x3 x4 x5 m a1 a2 a3 a4 a5 a6 a7 a8 a9, cw_Inv x2 x3 x4 x5 m a1 a2 a3 a4 a5 → J x2 x3 x4 x5 (nI (j + 3)) m a1 a2 a3 a4 a5 a6 a7 a8 a9
theorem cw_p3 (j : Nat) : nI j + 3 = nI (j + 3) := nI_add j 3
theorem cw_p2 (j : Nat) : nI j + 2 = nI (j + 2) := nI_add j 2
theorem cw_p1 (j : Nat) : nI j + 1 = nI (j + 1) := nI_add j 1
theorem cw_mod7 (x : Int32) : ∃ S, 1 ≤ S ∧ S < 8 ∧ 1 + ((x &&& 255) - (x &&& 255) / 7 * 7) = nI S := by
  obtain ⟨v, hv, e⟩ := pk_andE x (m := 255) 8 (by decide)
  have h7 := Nat.mod_lt v (show 0 < 7 by omega)
  refine ⟨1 + v % 7, by omega, by omega, ?_⟩
  rw [e]
  have r : nI v - nI v / 7 * 7 = nI (v % 7) := pk_rem (d := 7) (by omega) (by omega) (by omega)
  rw [r]
  exact nI_add 1 (v % 7)
theorem cw_mod3 (x : Int32) : ∃ p, p < 3 ∧ (x &&& 255) - (x &&& 255) / 3 * 3 = nI p := by
  obtain ⟨v, hv, e⟩ := pk_andE x (m := 255) 8 (by decide)
  refine ⟨v % 3, Nat.mod_lt _ (by omega), ?_⟩
  rw [e]
  exact pk_rem (d := 3) (by omega) (by omega) (by omega)
section
variable {post : Int32 → Prop} {L : Nat} {xs : Nat → Int32} {J : cw_JT} {x2 x3 x4 x5 x7 x9 x10 z0 m b : Int32} {kc ks j p k : Nat} {a1 a2 a3 a4 a5 a6 a7 a8 a9 a1' a2' a3' a4' a5' a6' : Nat → Int32} {m' : Int32}
  {c : Nat → Nat} {G : Nat → Nat → Prop} {K : Nat → Nat → Nat → Nat} {M M' : Nat} {V : Nat → Nat} {B : Prop}
theorem cw_360 (hT : cw_T c G K M m a1 a2 a3 a4 a5) (m0 : cw_mk c G 0 x2) (m1 : cw_mk c G 1 x3) (m2 : cw_mk c G 2 x4) (HJ : cw_HJ J j) :
    ∃ n, wL_law_360 post L xs J x2 x3 x4 (nI j) kc ks n 0 1 m a1 a2 a3 a4 a5 a6 a7 a8 a9 := by
  have hT' := hT
  obtain ⟨hW, ha, hg, hk, hM, hN⟩ := hT'
  refine pk_loop (σ := Int32 × (Nat → Int32)) (fun n t q => wL_law_360 post L xs J x2 x3 x4 (nI j) kc ks n q.1 (nI t) m a1 a2 a3 a4 a5 a6 q.2 a8 a9) (fun t q => 1 ≤ t ∧ cw_bf c G K q.1) 8 1 (0, a7) (by omega)
    ⟨Nat.le_refl 1, fun s _ h8 hb => absurd hb (cw_bt0 (by omega))⟩ ?_ ?_
  · intro n q hI
    have c0 := hW.1 0 (by omega)
    have c1 := hW.1 1 (by omega)
    have c2 := hW.1 2 (by omega)
    have hle := cw_N_le (K := K) c0 c1 c2
    have hpr : (c 0 + 1) * (c 1 + 1) * (c 2 + 1) ≤ 9 * 9 * 9 := Nat.mul_le_mul (Nat.mul_le_mul (by omega) (by omega)) (by omega)
    refine pk_le 8 8 (fun _ => ?_) (fun z => absurd z (by omega))
    refine cw_ev ha 0 (by omega) ?_
    refine cw_ev ha 1 (by omega) ?_
    refine cw_ev ha 2 (by omega) ?_
    refine nm_r (e' := nI (c 0 + c 1 + c 2)) (by rw [nI_add, nI_add]) ?_
    refine cw_cuts hW ha hk ?_
    refine br_f (by rw [nI_1]; exact nI_nlt hN (by omega)) ?_
    refine cw_ev ha 0 (by omega) ?_
    refine cw_ev ha 1 (by omega) ?_
    refine cw_ev ha 2 (by omega) ?_
    refine br_t (by rw [nI_1, nI_1, nI_1, pk_mul, pk_mul]; exact nI_le hle (by omega)) (nm_r (cw_p3 j) (HJ _ _ _ _ _ _ _ _ _ _ _ _ _ _ ?_))
    exact ⟨c, G, K, M, hT, m0, m1, m2, hI.2⟩
  · intro n t q ht hI hw
    refine pk_le 8 t (fun z => absurd z (by omega)) (fun _ => ?_)
    refine cw_pos hW ha hg hk hI.1 ht (fun r b7 hr => ?_)
    refine nm_e (nm_r (nI_1 t) (hw (_, b7) ⟨Nat.le_succ_of_le hI.1, fun s h1 h8 hb => ?_⟩))
    rcases cw_bfr (by omega) (by omega) (cw_ans_01 hr).1 hb with z | ⟨e, er⟩
    · exact hI.2 s h1 h8 z
    · rw [er] at hr
      rw [e]
      exact cw_ans_q hr
theorem cw_295 (hI : cw_Inv x2 x3 x4 x5 m a1 a2 a3 a4 a5) (hp : p < 3) (hj : j + 3 ≤ L) (hL : L ≤ 260) (HJ : cw_HJ J j) :
    wL_law_295 post L xs J x2 x3 x4 x5 (nI j) (nI p) kc ks m a1 a2 a3 a4 a5 a6 a7 a8 a9 := by
  obtain ⟨c, G, K, M, hT, m0, m1, m2, hbf⟩ := hI
  have hT' := hT
  obtain ⟨hW, ha, hg, hk, hM, hN⟩ := hT'
  obtain ⟨S, h1, hS, eS⟩ := cw_mod7 ((xs (nI j + 2).toNatClampNeg) >>> ((5 : Int32) &&& 31))
  unfold wL_law_295
  refine ⟨?_, by decide, nm_r eS ?_⟩
  · rw [cw_p2]
    exact vp_in_nI (by omega) (by omega)
  refine cw_sets hW ha hg hk hbf (fun b7 b8 b9 => ?_)
  refine br_f (by decide) ?_
  refine cw_least hW ha hg hk h1 hS m0 m1 m2 (fun b7 => ?_)
  refine br_f (by decide) ⟨by decide, ?_⟩
  have e3 : nI S + nI p - (nI S + nI p) / 3 * 3 = nI ((S + p) % 3) := by
    rw [nI_add]
    exact pk_rem (d := 3) (by omega) (by omega) (by omega)
  rw [e3]
  refine cw_known hW ha hk hp (Nat.mod_lt _ (by omega)) ?_
  exact br_f (by decide) (cw_360 hT m0 m1 m2 HJ)
theorem cw_231 {x6 x8 x11 : Int32} (h : x11 < 0 ∨ ¬ x7 = 0 ∨ ¬ x10 = 0) (h295 : wL_law_295 post L xs J x2 x3 x4 x5 x6 x8 kc ks m a1 a2 a3 a4 a5 a6 a7 a8 a9) :
    wL_law_231 post L xs J x2 x3 x4 x5 x6 x7 x8 x10 x11 kc ks m a1 a2 a3 a4 a5 a6 a7 a8 a9 := by
  unfold wL_law_231
  refine br_c (fun _ => h295) (fun n11 => br_c (fun e7 => br_c (fun e10 => ?_) (fun _ => h295)) (fun _ => h295))
  rcases h with h | h | h
  · exact absurd h n11
  · exact absurd e7 h
  · exact absurd e10 h
/-- refused, or accepted, not good, and no start -/
theorem cw_160n {x6 x8 : Int32} (h : z0 < 0 ∨ (x9 = 0 ∧ (¬ x7 = 0 ∨ ¬ x10 = 0))) (h295 : wL_law_295 post L xs J x2 x3 x4 x5 x6 x8 kc ks m a1 a2 a3 a4 a5 a6 a7 a8 a9) :
    wL_law_160 post L xs J x2 x3 x4 x5 x6 x7 x8 x9 x10 z0 kc ks m a1 a2 a3 a4 a5 a6 a7 a8 a9 := by
  unfold wL_law_160
  refine br_c (fun z => cw_231 (Or.inl z) h295) (fun z => ?_)
  rcases h with h | ⟨h1, h2⟩
  · exact absurd h z
  · exact br_t h1 (cw_231 (Or.inr h2) h295)
/-- a start that is not good -/
theorem cw_160s (hT : cw_T c G K M m a1 a2 a3 a4 a5) (hp : p < 3) (h0 : p ≠ 0 → cw_mk c G 0 x2) (h1 : p ≠ 1 → cw_mk c G 1 x3) (h2 : p ≠ 2 → cw_mk c G 2 x4) (hmp : ∀ x, cw_mk c G p x)
    (h7 : x7 = 0) (h10 : x10 = 0) (hj : j + 3 ≤ L) (hL : L ≤ 260) (HJ : cw_HJ J j) :
    wL_law_160 post L xs J x2 x3 x4 x5 (nI j) x7 (nI p) 0 x10 0 kc ks m a1 a2 a3 a4 a5 a6 a7 a8 a9 := by
  have hb : cw_bf c G K 0 := fun s _ h8 hb => absurd hb (cw_bt0 (by omega))
  unfold wL_law_160 wL_law_231
  refine br_f (by decide) (br_t rfl (br_f (by decide) (br_t h7 (br_t h10 ?_))))
  have e : p = 0 ∨ p = 1 ∨ p = 2 := by omega
  rcases e with e | e | e <;> subst e
  · refine br_t rfl ?_
    unfold wL_law_258
    refine nm_e (br_f (by decide) ?_)
    unfold wL_law_273
    refine nm_r (cw_andm x3) (br_f (by decide) ?_)
    unfold wL_law_289
    exact nm_r (cw_andm x4) (cw_295 ⟨c, G, K, M, hT, hmp _, h1 (by omega), h2 (by omega), hb⟩ hp hj hL HJ)
  · refine br_f (by decide) ?_
    unfold wL_law_258
    refine nm_r (cw_andm x2) (br_t rfl ?_)
    unfold wL_law_273
    refine nm_e (br_f (by decide) ?_)
    unfold wL_law_289
    exact nm_r (cw_andm x4) (cw_295 ⟨c, G, K, M, hT, h0 (by omega), hmp _, h2 (by omega), hb⟩ hp hj hL HJ)
  · refine br_f (by decide) ?_
    unfold wL_law_258
    refine nm_r (cw_andm x2) (br_f (by decide) ?_)
    unfold wL_law_273
    refine nm_r (cw_andm x3) (br_t rfl ?_)
    unfold wL_law_289
    exact nm_e (cw_295 ⟨c, G, K, M, hT, h0 (by omega), h1 (by omega), hmp _, hb⟩ hp hj hL HJ)
theorem cw_mkn {x : Int32} (h8 : c p ≤ 8) (h : ∀ k, k < c p → G p k → cw_bt x k) : cw_mk c G p (x ||| ((1 : Int32) <<< (nI (c p) &&& 31))) := by
  intro k hk hG
  by_cases e : k = c p
  · rw [e]
    exact cw_or2 (by omega) (cw_bit (c p) (by omega))
  · exact cw_or1 (by omega) (h k (by omega) hG)
/-- accepted and good -/
theorem cw_160g (hT : cw_T c G K M m a1 a2 a3 a4 a5) (hp : p < 3) (h0 : p ≠ 0 → cw_mk c G 0 x2) (h1 : p ≠ 1 → cw_mk c G 1 x3) (h2 : p ≠ 2 → cw_mk c G 2 x4)
    (g0 : p = 0 → ∀ k, k < c 0 → G 0 k → cw_bt x2 k) (g1 : p = 1 → ∀ k, k < c 1 → G 1 k → cw_bt x3 k) (g2 : p = 2 → ∀ k, k < c 2 → G 2 k → cw_bt x4 k) (hb : cw_bf c G K x5)
    (hz : ¬ z0 < 0) (hj : j + 3 ≤ L) (hL : L ≤ 260) (HJ : cw_HJ J j) :
    wL_law_160 post L xs J x2 x3 x4 x5 (nI j) x7 (nI p) 1 x10 z0 kc ks m a1 a2 a3 a4 a5 a6 a7 a8 a9 := by
  unfold wL_law_160
  refine br_f hz (br_f (by decide) ?_)
  refine cw_ev hT.2.1 p hp (nm_e ?_)
  have h8 := hT.1.1
  have e : p = 0 ∨ p = 1 ∨ p = 2 := by omega
  rcases e with e | e | e <;> subst e
  · refine br_t rfl ?_
    unfold wL_law_194
    refine nm_e (br_f (by decide) ?_)
    unfold wL_law_209
    refine nm_r (cw_or0 x3) (br_f (by decide) ?_)
    unfold wL_law_225
    exact nm_r (cw_or0 x4) (cw_295 ⟨c, G, K, M, hT, cw_mkn (h8 0 hp) (g0 rfl), h1 (by omega), h2 (by omega), hb⟩ hp hj hL HJ)
  · refine br_f (by decide) ?_
    unfold wL_law_194
    refine nm_r (cw_or0 x2) (br_t rfl ?_)
    unfold wL_law_209
    refine nm_e (br_f (by decide) ?_)
    unfold wL_law_225
    exact nm_r (cw_or0 x4) (cw_295 ⟨c, G, K, M, hT, h0 (by omega), cw_mkn (h8 1 hp) (g1 rfl), h2 (by omega), hb⟩ hp hj hL HJ)
  · refine br_f (by decide) ?_
    unfold wL_law_194
    refine nm_r (cw_or0 x2) (br_f (by decide) ?_)
    unfold wL_law_209
    refine nm_r (cw_or0 x3) (br_t rfl ?_)
    unfold wL_law_225
    exact nm_e (cw_295 ⟨c, G, K, M, hT, h0 (by omega), h1 (by omega), cw_mkn (h8 2 hp) (g2 rfl), hb⟩ hp hj hL HJ)
/-- an event was accepted -/
theorem cw_acc (m0 : cw_mk c G 0 x2) (m1 : cw_mk c G 1 x3) (m2 : cw_mk c G 2 x4) (hbf : cw_bf c G K x5) (hp : p < 3) (hb : cw_ans B b)
    (hT : cw_T (cw_c c p) (cw_G G p (c p + 1) B) (cw_K K p (c p + 1) V) M' m' a1' a2' a3' a4' a5') (hn : ¬ x7 = 0 ∨ ¬ x10 = 0) (hk : k < 2 ^ 31) (hj : j + 3 ≤ L) (hL : L ≤ 260) (HJ : cw_HJ J j) :
    wL_law_160 post L xs J x2 x3 x4 x5 (nI j) x7 (nI p) b x10 (nI k) kc ks m' a1' a2' a3' a4' a5' a6' a7 a8 a9 := by
  have hbf' : cw_bf (cw_c c p) (cw_G G p (c p + 1) B) (cw_K K p (c p + 1) V) x5 := by
    intro s h1 h8 hx
    refine cw_Pkeep (fun q _ => cw_c_le) (fun q k _ hk hG => Or.inr ⟨fun z => ?_, hG⟩) (fun q k r _ hk => cw_K_o hk) (hbf s h1 h8 hx)
    rw [z.1] at hk
    have := z.2
    omega
  have kq : ∀ q x, q ≠ p → cw_mk c G q x → cw_mk (cw_c c p) (cw_G G p (c p + 1) B) q x := by
    intro q x hq h k hk hG
    rw [cw_c_n hq] at hk
    exact Or.elim hG (fun z => absurd z.1 hq) (fun z => h k hk z.2)
  have kp : ∀ q x, p = q → cw_mk c G q x → ∀ k, k < cw_c c p q → cw_G G p (c p + 1) B q k → cw_bt x k := by
    intro q x e h k hk hG
    subst e
    rw [cw_c_s] at hk
    exact Or.elim hG (fun z => absurd z.2.1 (by omega)) (fun z => h k (by omega) z.2)
  have kb : ¬ B → ∀ q x, cw_mk c G q x → cw_mk (cw_c c p) (cw_G G p (c p + 1) B) q x := by
    intro nB q x h k hk hG
    refine Or.elim hG (fun z => absurd z.2.2 nB) (fun z => h k ?_ z.2)
    rcases cw_cas hk with y | y
    · exact absurd y z.1
    · exact y
  rcases hb with ⟨e, hB⟩ | ⟨e, hB⟩
  · rw [e]
    exact cw_160g hT hp (fun h => kq 0 x2 (fun z => h z.symm) m0) (fun h => kq 1 x3 (fun z => h z.symm) m1) (fun h => kq 2 x4 (fun z => h z.symm) m2) (fun h => kp 0 x2 h m0) (fun h => kp 1 x3 h m1) (fun h => kp 2 x4 h m2) hbf' (nI_pos hk) hj hL HJ
  · exact cw_160n (Or.inr ⟨e, hn⟩) (cw_295 ⟨_, _, _, _, hT, kb hB 0 x2 m0, kb hB 1 x3 m1, kb hB 2 x4 m2, hbf'⟩ hp hj hL HJ)
theorem cw_107 (hT : cw_T c G K M m a1 a2 a3 a4 a5) (m0 : cw_mk c G 0 x2) (m1 : cw_mk c G 1 x3) (m2 : cw_mk c G 2 x4) (hbf : cw_bf c G K x5) (hp : p < 3) (hb : cw_ans B b)
    (hn : ¬ x7 = 0 ∨ ¬ x10 = 0) (hj : j + 3 ≤ L) (hL : L ≤ 260) (HJ : cw_HJ J j) :
    wL_law_107 post L xs J x2 x3 x4 x5 (nI j) x7 (nI p) b x10 kc ks m a1 a2 a3 a4 a5 a6 a7 a8 a9 := by
  have h295 : wL_law_295 post L xs J x2 x3 x4 x5 (nI j) (nI p) kc ks m a1 a2 a3 a4 a5 a6 a7 a8 a9 := cw_295 ⟨c, G, K, M, hT, m0, m1, m2, hbf⟩ hp hj hL HJ
  have h160 : wL_law_160 post L xs J x2 x3 x4 x5 (nI j) x7 (nI p) b x10 (-1) kc ks m a1 a2 a3 a4 a5 a6 a7 a8 a9 := cw_160n (Or.inl (by decide)) h295
  unfold wL_law_107
  refine br_c (fun _ => br_c (fun _ => ⟨?_, ?_⟩) (fun _ => ?_)) (fun _ => ?_)
  · rw [cw_p2]
    exact vp_in_nI (by omega) (by omega)
  · obtain ⟨u, hu, eu⟩ := pk_andE ((xs (nI j + 2).toNatClampNeg) >>> ((2 : Int32) &&& 31)) (m := 7) 3 (by decide)
    rw [eu]
    exact cw_rcv hT hp hb hu h160 (fun V k M' m' b1 b2 b3 b4 b5 b6 _ hk hT' => cw_acc m0 m1 m2 hbf hp hb hT' hn hk hj hL HJ)
  · exact cw_send hT hp hb h160 (fun V k M' m' b1 b2 b3 b4 b5 b6 _ hk hT' => cw_acc m0 m1 m2 hbf hp hb hT' hn hk hj hL HJ)
  · exact cw_step hT hp hb h160 (fun V k M' m' b1 b2 b3 b4 b5 b6 _ hk hT' => cw_acc m0 m1 m2 hbf hp hb hT' hn hk hj hL HJ)
theorem cw_76 (hI : cw_Inv x2 x3 x4 x5 m a1 a2 a3 a4 a5) (hp : p < 3) (hb : cw_ans B b) (hj : j + 3 ≤ L) (hL : L ≤ 260) (HJ : cw_HJ J j) :
    wL_law_76 post L xs J x2 x3 x4 x5 (nI j) x7 (nI p) b kc ks m a1 a2 a3 a4 a5 a6 a7 a8 a9 := by
  obtain ⟨c, G, K, M, hT, m0, m1, m2, hbf⟩ := hI
  have h8 := hT.1.1 p hp
  unfold wL_law_76
  refine cw_ev hT.2.1 p hp ?_
  refine br_c (fun e7 => br_c (fun e10 => ?_) (fun n10 => cw_107 hT m0 m1 m2 hbf hp hb (Or.inr n10) hj hL HJ)) (fun n7 => cw_107 hT m0 m1 m2 hbf hp hb (Or.inl n7) hj hL HJ)
  have c0 : c p = 0 := (nI_eq (by omega) (by omega)).mp (show nI (c p) = nI 0 from e10)
  have kq : ∀ q x, q ≠ p → cw_mk c G q x → cw_mk c (cw_G G p 0 B) q x := by
    intro q x hq h k hk hG
    exact Or.elim hG (fun z => absurd z.1 hq) (fun z => h k hk z.2)
  refine cw_start hT hp hb (fun b2 hT' => ?_)
  rcases hb with ⟨e, hB⟩ | ⟨e, hB⟩
  · rw [e]
    refine cw_160g hT' hp (fun h => kq 0 x2 (fun z => h z.symm) m0) (fun h => kq 1 x3 (fun z => h z.symm) m1) (fun h => kq 2 x4 (fun z => h z.symm) m2) (fun h k hk => ?_) (fun h k hk => ?_) (fun h k hk => ?_) (fun s h1 h8 hx => ?_) (by decide) hj hL HJ
    · rw [h] at c0; omega
    · rw [h] at c0; omega
    · rw [h] at c0; omega
    · refine cw_Pkeep (fun q _ => Nat.le_refl _) (fun q k _ hk hG => ?_) (fun q k r _ hk => rfl) (hbf s h1 h8 hx)
      by_cases y : q = p ∧ k = 0
      · exact Or.inl ⟨y.1, y.2, hB⟩
      · exact Or.inr ⟨y, hG⟩
  · rw [e]
    refine cw_160s hT' hp (fun h => kq 0 x2 (fun z => h z.symm) m0) (fun h => kq 1 x3 (fun z => h z.symm) m1) (fun h => kq 2 x4 (fun z => h z.symm) m2) (fun x k hk hG => ?_) e7 e10 hj hL HJ
    exact Or.elim hG (fun z => absurd z.2.2 hB) (fun z => absurd ⟨rfl, by omega⟩ z.1)
theorem cw_Inv0 : cw_Inv 0 0 0 0 0 (fun _ => 0) (fun _ => 0) (fun _ => 0) (fun _ => 0) (fun _ => 0) := by
  refine ⟨fun _ => 0, fun _ _ => False, fun _ _ _ => 0, 0, ⟨cw_W0, fun _ _ => rfl, fun _ _ _ _ => ⟨fun _ z => z, fun _ => rfl⟩, fun _ _ _ _ _ _ => rfl, ⟨rfl, Nat.zero_le _, fun i hi => absurd hi (Nat.not_lt_zero i)⟩, cw_N0⟩, fun _ _ z => absurd z id, fun _ _ z => absurd z id, fun _ _ z => absurd z id, fun s _ h8 hb => absurd hb (cw_bt0 (by omega))⟩
theorem cw_21 (hL : L ≤ 260) (hp1 : post 1) (hI : cw_Inv 0 0 0 0 0 a1 a2 a3 a4 a5) : ∃ n, wL_law_21 post L xs kc ks n 0 0 0 0 0 0 a1 a2 a3 a4 a5 a6 a7 a8 a9 := by
  refine lp15 (wL_law_21 post L xs kc ks) (fun x2 x3 x4 x5 x6 m a1 a2 a3 a4 a5 _ _ _ _ => (∃ j, j ≤ 122 ∧ x6 = nI j) ∧ cw_Inv x2 x3 x4 x5 m a1 a2 a3 a4 a5) (fun _ _ _ _ x6 _ _ _ _ _ _ _ _ _ _ => 200 - x6.toNatClampNeg) ?_ 0 0 0 0 0 0 a1 a2 a3 a4 a5 a6 a7 a8 a9 ⟨⟨0, by omega, rfl⟩, hI⟩
  intro n x2 x3 x4 x5 x6 m a1 a2 a3 a4 a5 a6 a7 a8 a9 hI hw
  obtain ⟨⟨j, hj, e6⟩, hI⟩ := hI
  subst e6
  refine pk_lt L (j + 3) (fun _ => hp1) (fun hjL => pk_le 120 j (fun _ => hp1) (fun hj2 => ?_)) rfl (cw_p3 j)
  have HJ : cw_HJ (wL_law_21 post L xs kc ks n) j := by
    intro y2 y3 y4 y5 m' b1 b2 b3 b4 b5 b6 b7 b8 b9 hI'
    refine hw y2 y3 y4 y5 (nI (j + 3)) m' b1 b2 b3 b4 b5 b6 b7 b8 b9 ⟨⟨j + 3, by omega, rfl⟩, hI'⟩ ?_
    show 200 - (nI (j + 3)).toNatClampNeg < 200 - (nI j).toNatClampNeg
    rw [nI_clamp (by omega), nI_clamp (by omega)]
    omega
  obtain ⟨p, hp, ep⟩ := cw_mod3 (xs (nI j + 1).toNatClampNeg)
  refine ⟨pk_in j L (by omega), nm_e ⟨?_, by decide, nm_r ep ⟨?_, br_c (fun z => ?_) (fun z => ?_)⟩⟩⟩
  · rw [cw_p1]
    exact vp_in_nI (by omega) (by omega)
  · rw [cw_p2]
    exact vp_in_nI (by omega) (by omega)
  · exact cw_76 (B := True) hI hp (Or.inl ⟨rfl, trivial⟩) hjL hL HJ
  · exact cw_76 (B := False) hI hp (Or.inr ⟨rfl, id⟩) hjL hL HJ
end
theorem i_vc (xs : Nat → Int32) (L : Nat) (hL : L ≤ 260) : wpL_law (fun r => r = 1) L xs := by
  unfold wpL_law
  refine ⟨9, 192, by omega, by omega, ?_⟩
  unfold wpX_init
  refine ⟨by omega, by omega, by omega, by omega, by omega, by omega, by omega, by omega, by omega, by omega, by omega, by omega, by omega, by omega, by omega, by omega, by omega, by omega, ?_⟩
  exact cw_21 hL rfl cw_Inv0
end
