section
section
variable {post : Int32 → Prop} {x f : Int32} {a1 a2 a3 a4 a5 a6 a7 : Nat → Int32} {m p q r : Nat}
/-- a shape of three rows -/
abbrev td_S (p q r : Nat) : Prop := r ≤ q ∧ q ≤ p ∧ p + q + r ≤ 6
/-- the int of a shape -/
def td_sh (x : Int32) : Prop := ∃ p q r : Nat, td_S p q r ∧ x = nI (100 * p + 10 * q + r)
/-- the int of a content -/
def td_ct (x : Int32) : Prop := ∃ p q r : Nat, (p ≤ 6 ∧ q ≤ 6 ∧ r ≤ 6) ∧ x = nI (100 * p + 10 * q + r)
/-- the array that holds a shape -/
def td_K (a : Nat → Int32) (p q r : Nat) : Prop := a 0 = nI p ∧ a 1 = nI q ∧ a 2 = nI r
theorem td_d100 (h : m < 2 ^ 31) : nI m / 100 = nI (m / 100) := pk_div h (by decide) (by decide)
theorem td_d10 (h : m < 2 ^ 31) : nI m / 10 = nI (m / 10) := pk_div h (by decide) (by decide)
theorem td_r10 (h : m < 2 ^ 31) : nI m - nI m / 10 * 10 = nI (m % 10) := pk_rem h (by decide) (by decide)
theorem td_m10 (h : m < 2 ^ 31) : nI m / 10 - nI m / 10 / 10 * 10 = nI (m / 10 % 10) := by
  rw [td_d10 h]
  exact td_r10 (by omega)
theorem td_neg (h : x < 0) : ¬ td_sh x := by
  rintro ⟨p, q, r, ⟨h1, h2, h3⟩, rfl⟩
  exact nI_pos (by omega) h
theorem td_shm (hm : m < 2 ^ 31) : td_sh (nI m) ↔ td_S (m / 100) (m / 10 % 10) (m % 10) := by
  constructor
  · rintro ⟨p, q, r, ⟨h1, h2, h3⟩, e⟩
    have e' := (nI_eq hm (by omega)).mp e
    exact ⟨by omega, by omega, by omega⟩
  · intro h
    exact ⟨_, _, _, h, congrArg nI (by omega)⟩
theorem td_Lsz (hm : m < 2 ^ 31) (h : post (nI (m / 100 + m / 10 % 10 + m % 10))) : wpL_size post () (nI m) := by
  unfold wpL_size
  rw [td_d100 hm, td_m10 hm, td_r10 hm, nI_add, nI_add]
  exact ⟨by decide, by decide, by decide, by decide, h⟩
theorem td_Xsz (hm : m < 2 ^ 31) (h : post (nI (m / 100 + m / 10 % 10 + m % 10))) : wpX_size post () (nI m) := by
  unfold wpX_size
  rw [td_d100 hm, td_m10 hm, td_r10 hm, nI_add, nI_add]
  exact ⟨by decide, by decide, by decide, by decide, h⟩
theorem td_n1 (hq : q < 10) (hr : r < 10) : (100 * p + 10 * q + r) / 100 = p := by omega
theorem td_n2 (hq : q < 10) (hr : r < 10) : (100 * p + 10 * q + r) / 10 % 10 = q := by omega
theorem td_n3 (hq : q < 10) (hr : r < 10) : (100 * p + 10 * q + r) % 10 = r := by omega
theorem td_LszD (hp : p < 10) (hq : q < 10) (hr : r < 10) (h : post (nI (p + q + r))) : wpL_size post () (nI (100 * p + 10 * q + r)) := by
  refine td_Lsz (by omega) ?_
  rw [td_n1 hq hr, td_n2 hq hr, td_n3 hq hr]
  exact h
theorem td_XszD (hp : p < 10) (hq : q < 10) (hr : r < 10) (h : post (nI (p + q + r))) : wpX_size post () (nI (100 * p + 10 * q + r)) := by
  refine td_Xsz (by omega) ?_
  rw [td_n1 hq hr, td_n2 hq hr, td_n3 hq hr]
  exact h
theorem td_Sp (h : td_S p q r) : p < 10 := by obtain ⟨h1, h2, h3⟩ := h; omega
theorem td_Sq (h : td_S p q r) : q < 10 := by obtain ⟨h1, h2, h3⟩ := h; omega
theorem td_Sr (h : td_S p q r) : r < 10 := by obtain ⟨h1, h2, h3⟩ := h; omega
theorem td_LszS (hs : td_S p q r) (h : post (nI (p + q + r))) : wpL_size post () (nI (100 * p + 10 * q + r)) := td_LszD (td_Sp hs) (td_Sq hs) (td_Sr hs) h
theorem td_XszS (hs : td_S p q r) (h : post (nI (p + q + r))) : wpX_size post () (nI (100 * p + 10 * q + r)) := td_XszD (td_Sp hs) (td_Sq hs) (td_Sr hs) h
theorem td_Lsh (h1 : td_sh x → post 1) (h0 : ¬ td_sh x → post 0) : wpL_isShape post () x := by
  unfold wpL_isShape
  refine ⟨by decide, nm_e ⟨by decide, by decide, nm_e ⟨by decide, nm_e ?_⟩⟩⟩
  by_cases hx : x < 0
  · exact br_t hx (h0 (td_neg hx))
  · obtain ⟨m, hm, rfl⟩ := nI_of hx
    refine br_f hx ?_
    rw [td_d100 hm, td_m10 hm, td_r10 hm, nI_add, nI_add]
    have hn : ¬ td_S (m / 100) (m / 10 % 10) (m % 10) → post 0 := fun t => h0 (fun s => t ((td_shm hm).mp s))
    exact pk_lt (m / 100) (m / 10 % 10) (fun z => hn (fun t => absurd t.2.1 (by omega)))
      (fun z1 => pk_lt (m / 10 % 10) (m % 10) (fun z => hn (fun t => absurd t.1 (by omega)))
        (fun z2 => pk_lt 6 (m / 100 + m / 10 % 10 + m % 10) (fun z => hn (fun t => absurd t.2.2 (by omega)))
          (fun z3 => h1 ((td_shm hm).mpr ⟨z2, z1, z3⟩))))
theorem td_Xsh (h1 : td_sh x → post 1) (h0 : ¬ td_sh x → post 0) : wpX_isShape post () x := by
  unfold wpX_isShape
  by_cases hx : x < 0
  · exact br_t hx (h0 (td_neg hx))
  · obtain ⟨m, hm, rfl⟩ := nI_of hx
    have hn : ¬ td_S (m / 100) (m / 10 % 10) (m % 10) → post 0 := fun t => h0 (fun s => t ((td_shm hm).mp s))
    refine br_f hx (pk_le m 600 (fun z => ⟨by decide, by decide, nm_e ⟨by decide, ?_⟩⟩) (fun z => hn (fun t => ?_)))
    · rw [td_d100 hm, td_m10 hm, td_r10 hm]
      exact pk_lt (m / 100) (m / 10 % 10) (fun z => hn (fun t => absurd t.2.1 (by omega)))
        (fun z1 => ⟨by decide, pk_lt (m / 10 % 10) (m % 10) (fun z => hn (fun t => absurd t.1 (by omega)))
          (fun z2 => td_Xsz hm (pk_lt 6 (m / 100 + m / 10 % 10 + m % 10) (fun z => hn (fun t => absurd t.2.2 (by omega)))
            (fun z3 => h1 ((td_shm hm).mpr ⟨z2, z1, z3⟩))))⟩)
    · obtain ⟨t1, t2, t3⟩ := t
      omega
theorem td_shS (hs : td_S p q r) : td_sh (nI (100 * p + 10 * q + r)) := ⟨p, q, r, hs, rfl⟩
theorem td_ks (k : td_K a1 p q r) (h : post (nI (p + q + r))) : wpX_keptSize post (f, a1, a2, a3, a4, a5, a6, a7) := by
  have t : post (a1 0 + a1 1 + a1 2) := by
    rw [k.1, k.2.1, k.2.2, nI_add, nI_add]
    exact h
  exact t
/-- the row of a shape -/
def td_g (p q r : Nat) : Nat → Nat := fun k => if k = 0 then p else if k = 1 then q else r
theorem td_Kg (k : td_K a1 p q r) : ∀ i, i < 3 → a1 i = nI (td_g p q r i) := by
  intro i hi
  match i, hi with
  | 0, _ => exact k.1
  | 1, _ => exact k.2.1
  | 2, _ => exact k.2.2
theorem td_gB (hp : p < 10) (hq : q < 10) (hr : r < 10) (i : Nat) : td_g p q r i < 10 := by
  unfold td_g
  split
  · exact hp
  · split
    · exact hq
    · exact hr
/-- b holds below n -/
def td_al (b : Nat → Bool) : Nat → Bool
  | 0 => true
  | n + 1 => b n && td_al b n
theorem td_alE {b : Nat → Bool} : ∀ n, td_al b n = true → ∀ i, i < n → b i = true := by
  intro n
  induction n with
  | zero => intro _ i hi; omega
  | succ n ih =>
    intro h i hi
    unfold td_al at h
    rw [Bool.and_eq_true] at h
    by_cases e : i = n
    · rw [e]
      exact h.1
    · exact ih h.2 i (by omega)
/-- a check of all shapes -/
theorem td_each {Q : Nat → Nat → Nat → Bool} (h : td_al (fun p => td_al (fun q => td_al (fun r => !decide (td_S p q r) || Q p q r) 7) 7) 7 = true) (hs : td_S p q r) : Q p q r = true := by
  have h1 := td_alE 7 h p (by omega)
  have h2 := td_alE 7 h1 q (by omega)
  have h3 := td_alE 7 h2 r (by omega)
  rw [decide_eq_true hs] at h3
  exact h3
end
end
section
section
variable {post : Int32 → Prop} {x f : Int32} {a1 a2 a3 a4 a5 a6 a7 : Nat → Int32} {m p q r i j s : Nat} {g : Nat → Nat}
/-! fillings -/
def td_F (p q r : Nat) : Nat := (p - q + 1) * (q - r + 1) * (p - r + 2) / 2
theorem td_Fe (hs : td_S p q r) : (nI p - nI q + 1) * (nI q - nI r + 1) * (nI p - nI r + 2) / 2 = nI (td_F p q r) := by
  obtain ⟨h1, h2, h3⟩ := hs
  rw [pk_sub h2, pk_sub h1, pk_sub (show r ≤ p by omega), nI_1 (p - q), nI_1 (q - r), show nI (p - r) + 2 = nI (p - r + 2) from nI_add _ 2, pk_mul, pk_mul]
  have e1 : (p - q + 1) * (q - r + 1) ≤ 7 * 7 := Nat.mul_le_mul (by omega) (by omega)
  have e2 : (p - q + 1) * (q - r + 1) * (p - r + 2) ≤ 7 * 7 * 8 := Nat.mul_le_mul e1 (by omega)
  exact pk_div (Nat.lt_of_le_of_lt e2 (by decide)) (by decide) (by decide)
theorem td_fl (hs : td_S p q r) (k : td_K a1 p q r) (h : post (nI (td_F p q r))) : wpX_fillings post (f, a1, a2, a3, a4, a5, a6, a7) := by
  unfold wpX_fillings
  try dsimp only
  refine nm_e ⟨by decide, ?_⟩
  rw [k.1, k.2.1, k.2.2, td_Fe hs]
  exact h
theorem td_Fle (hs : td_S p q r) : p + 1 - q ≤ td_F p q r ∧ td_F p q r < 1000 := of_decide_eq_true (td_each (Q := fun p q r => decide (p + 1 - q ≤ td_F p q r ∧ td_F p q r < 1000)) (by decide +kernel) hs)
/-! hook -/
/-- how many of the rows k, .., k + d - 1 reach beyond j -/
def td_ab (g : Nat → Nat) (j : Nat) : Nat → Nat → Nat
  | 0, _ => 0
  | d + 1, k => (if g k ≤ j then 0 else 1) + td_ab g j d (k + 1)
theorem td_h14 (hg : ∀ i, i < 3 → a1 i = nI (g i)) (hb : ∀ i, g i < 10) (hj : j < 10) : ∀ d k h : Nat, k + d = 3 → post (nI (h + td_ab g j d k)) → wX_hook_14 post (nI j) f a1 a2 a3 a4 a5 a6 a7 (d + 1) (nI h) (nI k) := by
  intro d
  induction d with
  | zero =>
    intro k h e hp
    exact pk_le 3 k (fun _ => hp) (fun z => absurd z (by omega))
  | succ d ih =>
    intro k h e hp
    refine pk_le 3 k (fun z => absurd z (by omega)) (fun _ => And.intro (pk_in k 3 (by omega)) ?_)
    rw [nI_clamp (show k < 2 ^ 31 by omega), hg k (by omega)]
    have hk := hb k
    unfold td_ab at hp
    refine pk_le (g k) j (fun z => nm_r (nI_add h 0) (nm_r (nI_1 k) (ih (k + 1) (h + 0) (by omega) ?_))) (fun z => nm_r (nI_1 h) (nm_r (nI_1 k) (ih (k + 1) (h + 1) (by omega) ?_)))
    · rw [if_pos z] at hp
      rw [show h + 0 + td_ab g j d (k + 1) = h + (0 + td_ab g j d (k + 1)) by omega]
      exact hp
    · rw [if_neg (by omega)] at hp
      rw [show h + 1 + td_ab g j d (k + 1) = h + (1 + td_ab g j d (k + 1)) by omega]
      exact hp
theorem td_hk (hg : ∀ i, i < 3 → a1 i = nI (g i)) (hb : ∀ i, g i < 10) (hi : i < 3) (hj : j ≤ g i) (h : post (nI (g i - j + td_ab g j (2 - i) (i + 1)))) : wpX_hook post (f, a1, a2, a3, a4, a5, a6, a7) (nI i) (nI j) := by
  unfold wpX_hook
  try dsimp only
  refine ⟨pk_in i 3 hi, ?_⟩
  have hk := hb i
  rw [nI_clamp (show i < 2 ^ 31 by omega), hg i hi, pk_sub hj, nI_1]
  exact nm_e (nm_e ⟨2 - i + 1, td_h14 hg hb (by omega) (2 - i) (i + 1) _ (by omega) h⟩)
/-! orders -/
def td_oi (g : Nat → Nat) (i : Nat) : Nat → Nat → Nat × Nat × Nat → Nat × Nat × Nat
  | 0, _, s => s
  | d + 1, j, s => td_oi g i d (j + 1) (s.1 + 1, s.2.1 * (s.1 + 1), s.2.2 * (g i - j + td_ab g j (2 - i) (i + 1)))
theorem td_o18 {J9 : Int32 → Int32 → Int32 → Int32 → Prop} (hg : ∀ i, i < 3 → a1 i = nI (g i)) (hb : ∀ i, g i < 10) (hi : i < 3) : ∀ (d j : Nat) (s : Nat × Nat × Nat), j + d = g i →
    J9 (nI (td_oi g i d j s).1) (nI (td_oi g i d j s).2.1) (nI (td_oi g i d j s).2.2) (nI (i + 1)) →
    wX_orders_18 post J9 (nI i) f a1 a2 a3 a4 a5 a6 a7 (d + 1) (nI s.1) (nI s.2.1) (nI s.2.2) (nI j) := by
  intro d
  have hk := hb i
  induction d with
  | zero =>
    intro j s e h
    refine And.intro (pk_in i 3 hi) ?_
    rw [nI_clamp (show i < 2 ^ 31 by omega), hg i hi]
    exact pk_le (g i) j (fun _ => nm_r (nI_1 i) h) (fun z => absurd z (by omega))
  | succ d ih =>
    intro j s e h
    refine And.intro (pk_in i 3 hi) ?_
    rw [nI_clamp (show i < 2 ^ 31 by omega), hg i hi]
    exact pk_le (g i) j (fun z => absurd z (by omega)) (fun z => nm_r (nI_1 s.1) (nm_r (pk_mul s.2.1 (s.1 + 1)) (td_hk hg hb hi (by omega) (nm_r (pk_mul s.2.2 _) (nm_r (nI_1 j) (ih (j + 1) (s.1 + 1, s.2.1 * (s.1 + 1), s.2.2 * (g i - j + td_ab g j (2 - i) (i + 1))) (by omega) h))))))
theorem td_o9s {n : Nat} (hg : ∀ i, i < 3 → a1 i = nI (g i)) (hb : ∀ i, g i < 10) (hi : i < 3) (s : Nat × Nat × Nat)
    (h : wX_orders_9 post f a1 a2 a3 a4 a5 a6 a7 n (nI (td_oi g i (g i) 0 s).1) (nI (td_oi g i (g i) 0 s).2.1) (nI (td_oi g i (g i) 0 s).2.2) (nI (i + 1))) :
    wX_orders_9 post f a1 a2 a3 a4 a5 a6 a7 (n + 1) (nI s.1) (nI s.2.1) (nI s.2.2) (nI i) :=
  pk_le 3 i (fun z => absurd z (by omega)) (fun _ => ⟨g i + 1, td_o18 hg hb hi (g i) 0 s (by omega) h⟩)
def td_ord (g : Nat → Nat) : Nat × Nat × Nat := td_oi g 2 (g 2) 0 (td_oi g 1 (g 1) 0 (td_oi g 0 (g 0) 0 (0, 1, 1)))
theorem td_ordD (hs : td_S p q r) : 0 < (td_ord (td_g p q r)).2.2 ∧ (td_ord (td_g p q r)).2.2 < 2 ^ 31 ∧ (td_ord (td_g p q r)).2.1 < 2 ^ 31 ∧ 1 ≤ (td_ord (td_g p q r)).2.1 / (td_ord (td_g p q r)).2.2 :=
  of_decide_eq_true (td_each (Q := fun p q r => decide (0 < (td_ord (td_g p q r)).2.2 ∧ (td_ord (td_g p q r)).2.2 < 2 ^ 31 ∧ (td_ord (td_g p q r)).2.1 < 2 ^ 31 ∧ 1 ≤ (td_ord (td_g p q r)).2.1 / (td_ord (td_g p q r)).2.2)) (by decide +kernel) hs)
theorem td_or (hs : td_S p q r) (k : td_K a1 p q r) (h : ∀ v : Nat, 1 ≤ v → v < 2 ^ 31 → post (nI v)) : wpX_orders post (f, a1, a2, a3, a4, a5, a6, a7) := by
  have hg := td_Kg k
  have hb := td_gB (td_Sp hs) (td_Sq hs) (td_Sr hs)
  obtain ⟨e1, e2, e3, e4⟩ := td_ordD hs
  refine ⟨4, td_o9s hg hb (i := 0) (by omega) (0, 1, 1) (td_o9s hg hb (i := 1) (by omega) _ (td_o9s hg hb (i := 2) (by omega) _ ?_))⟩
  refine pk_le 3 3 (fun _ => And.intro (nI_ne0 e1 e2) ?_) (fun z => absurd z (by omega))
  have t := h _ e4 (Nat.lt_of_le_of_lt (Nat.div_le_self _ _) e3)
  rw [← pk_div e3 e1 e2] at t
  exact t
/-! withContent -/
theorem td_ctneg (h : x < 0) : ¬ td_ct x := by
  rintro ⟨p, q, r, ⟨h1, h2, h3⟩, rfl⟩
  exact nI_pos (by omega) h
theorem td_ctm (hm : m < 2 ^ 31) : td_ct (nI m) ↔ (m ≤ 666 ∧ m / 10 % 10 ≤ 6 ∧ m % 10 ≤ 6) := by
  constructor
  · rintro ⟨p, q, r, ⟨h1, h2, h3⟩, e⟩
    have e' := (nI_eq hm (by omega)).mp e
    exact ⟨by omega, by omega, by omega⟩
  · rintro ⟨h1, h2, h3⟩
    exact ⟨m / 100, m / 10 % 10, m % 10, ⟨by omega, h2, h3⟩, congrArg nI (by omega)⟩
theorem td_ctI {A B : Prop} (h1 : td_ct x → B) (h0 : ¬ td_ct x → A) : ((x < 0 → A) ∧ (¬ x < 0 → (((666 < x → A) ∧ (¬ 666 < x → (¬ (10 : Int32) = 0 ∧ (¬ (10 : Int32) = 0 ∧ (((6 < ((x / 10) - (x / 10) / 10 * 10) → A) ∧ (¬ 6 < ((x / 10) - (x / 10) / 10 * 10) → (¬ (10 : Int32) = 0 ∧ (((6 < (x - x / 10 * 10) → A) ∧ (¬ 6 < (x - x / 10 * 10) → B)))))))))))))) := by
  by_cases hx : x < 0
  · exact br_t hx (h0 (td_ctneg hx))
  · obtain ⟨m, hm, rfl⟩ := nI_of hx
    have hn : ¬ (m ≤ 666 ∧ m / 10 % 10 ≤ 6 ∧ m % 10 ≤ 6) → A := fun t => h0 (fun s => t ((td_ctm hm).mp s))
    rw [td_m10 hm, td_r10 hm]
    exact br_f hx (pk_lt 666 m (fun z => hn (by omega)) (fun z1 => ⟨by decide, by decide, pk_lt 6 (m / 10 % 10) (fun z => hn (by omega)) (fun z2 => ⟨by decide, pk_lt 6 (m % 10) (fun z => hn (by omega)) (fun z3 => h1 ((td_ctm hm).mpr ⟨z1, z2, z3⟩))⟩)⟩))
theorem td_Xct (h1 : td_ct x → post 1) (h0 : ¬ td_ct x → post 0) : wpX_isContent post () x := by
  unfold wpX_isContent
  exact td_ctI h1 h0
/-- whether upper = u counts -/
def td_wb (q r c1 c2 u : Nat) : Nat := if u ≤ c1 + c2 ∧ r ≤ c1 + c2 - u ∧ c1 + c2 - u ≤ q ∧ c1 + c2 - u ≤ c1 ∧ c1 ≤ u then 1 else 0
def td_wc (q r c1 c2 : Nat) : Nat → Nat → Nat
  | 0, _ => 0
  | d + 1, u => td_wb q r c1 c2 u + td_wc q r c1 c2 d (u + 1)
def td_W (p q r c1 c2 c3 : Nat) : Nat := if c1 + c2 + c3 = p + q + r then td_wc q r c1 c2 (p + 1 - q) q else 0
theorem td_wb1 (q r c1 c2 u : Nat) : td_wb q r c1 c2 u ≤ 1 := by
  unfold td_wb
  split <;> omega
theorem td_wcd (q r c1 c2 : Nat) : ∀ d u, td_wc q r c1 c2 d u ≤ d := by
  intro d
  induction d with
  | zero => intro u; exact Nat.le_refl 0
  | succ d ih =>
    intro u
    have h1 := td_wb1 q r c1 c2 u
    have h2 := ih (u + 1)
    unfold td_wc
    omega
theorem td_Wle (p q r c1 c2 c3 : Nat) : td_W p q r c1 c2 c3 ≤ p + 1 - q := by
  unfold td_W
  split
  · exact td_wcd q r c1 c2 (p + 1 - q) q
  · exact Nat.zero_le _
theorem td_W1 (hs : td_S p q r) : td_W p q r p q r = 1 := of_decide_eq_true (td_each (Q := fun p q r => decide (td_W p q r p q r = 1)) (by decide +kernel) hs)
theorem td_w66 {c1 c2 : Nat} (k : td_K a1 p q r) (hp : p < 10) (hq : q < 10) (hr : r < 10) (h1 : c1 < 10) (h2 : c2 < 10) : ∀ d u w : Nat, u + d = p + 1 → w + d < 100 → post (nI (w + td_wc q r c1 c2 d u)) → wX_withContent_66 post (nI c1) (nI c2) f a1 a2 a3 a4 a5 a6 a7 (d + 1) (nI w) (nI u) := by
  intro d
  induction d with
  | zero =>
    intro u w e hw h
    exact pk_lt p u (fun _ => h) (fun z => absurd z (by omega)) k.1
  | succ d ih =>
    intro u w e hw h
    unfold td_wc at h
    have b1 := td_wb1 q r c1 c2 u
    have hJ : wX_withContent_66 post (nI c1) (nI c2) f a1 a2 a3 a4 a5 a6 a7 (d + 1) (nI (w + td_wb q r c1 c2 u)) (nI (u + 1)) := ih (u + 1) (w + td_wb q r c1 c2 u) (by omega) (by omega) (by rw [Nat.add_assoc]; exact h)
    have hJ0 : ¬ (u ≤ c1 + c2 ∧ r ≤ c1 + c2 - u ∧ c1 + c2 - u ≤ q ∧ c1 + c2 - u ≤ c1 ∧ c1 ≤ u) → ∀ y, y = nI w + 0 → ∀ y', y' = nI u + 1 → wX_withContent_66 post (nI c1) (nI c2) f a1 a2 a3 a4 a5 a6 a7 (d + 1) y y' := by
      intro hc
      unfold td_wb at hJ
      rw [if_neg hc] at hJ
      exact nm_r (nI_add w 0) (nm_r (nI_1 u) hJ)
    have hJ1 : (u ≤ c1 + c2 ∧ r ≤ c1 + c2 - u ∧ c1 + c2 - u ≤ q ∧ c1 + c2 - u ≤ c1 ∧ c1 ≤ u) → ∀ y, y = nI w + 1 → ∀ y', y' = nI u + 1 → wX_withContent_66 post (nI c1) (nI c2) f a1 a2 a3 a4 a5 a6 a7 (d + 1) y y' := by
      intro hc
      unfold td_wb at hJ
      rw [if_pos hc] at hJ
      exact nm_r (nI_1 w) (nm_r (nI_1 u) hJ)
    refine pk_lt p u (fun z => absurd z (by omega)) (fun _ => nm_e ?_) k.1
    rw [k.2.1, k.2.2, nI_add]
    by_cases hu : u ≤ c1 + c2
    · rw [pk_sub hu]
      refine pk_lt (c1 + c2 - u) r (fun z => br_t rfl (hJ0 (by omega))) (fun z1 => pk_lt q (c1 + c2 - u) (fun z => br_t rfl (hJ0 (by omega))) (fun z2 => br_f (by decide) (pk_lt c1 (c1 + c2 - u) (fun z => hJ0 (by omega)) (fun z3 => pk_lt u c1 (fun z => hJ0 (by omega)) (fun z4 => hJ1 ⟨hu, z1, z2, z3, z4⟩)))))
    · refine br_t ?_ (br_t rfl (hJ0 (by omega)))
      rw [Int32.lt_iff_toInt_lt, pk_sub_toInt (by omega) (by omega), nI_toInt (by omega)]
      omega
theorem td_wcN (h : ¬ td_ct x) (hp : post (-1)) : wpX_withContent post (f, a1, a2, a3, a4, a5, a6, a7) x := by
  unfold wpX_withContent
  try dsimp only
  exact td_Xct (fun t => absurd t h) (fun _ => br_t rfl hp)
theorem td_wcY {c1 c2 c3 : Nat} (hs : td_S p q r) (k : td_K a1 p q r) (h1 : c1 ≤ 6) (h2 : c2 ≤ 6) (h3 : c3 ≤ 6) (hp : post (nI (td_W p q r c1 c2 c3))) : wpX_withContent post (f, a1, a2, a3, a4, a5, a6, a7) (nI (100 * c1 + 10 * c2 + c3)) := by
  unfold wpX_withContent
  try dsimp only
  refine td_Xct (fun _ => br_f (by decide) ?_) (fun t => absurd (show td_ct (nI (100 * c1 + 10 * c2 + c3)) from ⟨c1, c2, c3, ⟨h1, h2, h3⟩, rfl⟩) t)
  have hm : 100 * c1 + 10 * c2 + c3 < 2 ^ 31 := by omega
  have hp10 := td_Sp hs
  have hq10 := td_Sq hs
  have hr10 := td_Sr hs
  rw [td_d100 hm, td_m10 hm, td_r10 hm, td_n1 (by omega) (by omega), td_n2 (by omega) (by omega), td_n3 (by omega) (by omega)]
  refine ⟨by decide, nm_e ⟨by decide, by decide, nm_e ⟨by decide, ?_⟩⟩⟩
  rw [nI_add, nI_add, k.1, k.2.1, k.2.2, nI_add, nI_add]
  unfold td_W at hp
  refine pk_eq (c1 + c2 + c3) (p + q + r) (fun z => ?_) (fun z => ?_)
  · rw [if_pos z] at hp
    refine nm_e ⟨p + 1 - q + 1, td_w66 k hp10 hq10 hr10 (by omega) (by omega) (p + 1 - q) q 0 (by obtain ⟨_, _, _⟩ := hs; omega) (by omega) ?_⟩
    rw [Nat.zero_add]
    exact hp
  · rw [if_neg z] at hp
    exact hp
end
end
section
section
variable {post : Int32 → Prop} {x f : Int32} {a1 a2 a3 a4 a5 a6 a7 : Nat → Int32} {m p q r i j s : Nat} {g : Nat → Nat}
/-! turned -/
theorem td_t26 {J16 : Int32 → Int32 → Prop} (hg : ∀ i, i < 3 → a1 i = nI (g i)) (hb : ∀ i, g i < 10) (hj : j < 10) : ∀ d k c : Nat, k + d = 3 → J16 (nI (10 * s + (c + td_ab g j d k))) (nI (j + 1)) → wX_turned_26 post J16 (nI s) (nI j) f a1 a2 a3 a4 a5 a6 a7 (d + 1) (nI c) (nI k) := by
  intro d
  induction d with
  | zero =>
    intro k c e h
    exact pk_le 3 k (fun _ => nm_r (show 10 * nI s + nI c = nI (10 * s + c) by rw [show (10 : Int32) * nI s = nI (10 * s) from pk_mul 10 s, nI_add]) (nm_r (nI_1 j) h)) (fun z => absurd z (by omega))
  | succ d ih =>
    intro k c e h
    refine pk_le 3 k (fun z => absurd z (by omega)) (fun _ => And.intro (pk_in k 3 (by omega)) ?_)
    rw [nI_clamp (show k < 2 ^ 31 by omega), hg k (by omega)]
    have hk := hb k
    unfold td_ab at h
    refine pk_le (g k) j (fun z => nm_r (nI_add c 0) (nm_r (nI_1 k) (ih (k + 1) (c + 0) (by omega) ?_))) (fun z => nm_r (nI_1 c) (nm_r (nI_1 k) (ih (k + 1) (c + 1) (by omega) ?_)))
    · rw [if_pos z] at h
      rw [show c + 0 + td_ab g j d (k + 1) = c + (0 + td_ab g j d (k + 1)) by omega]
      exact h
    · rw [if_neg (by omega)] at h
      rw [show c + 1 + td_ab g j d (k + 1) = c + (1 + td_ab g j d (k + 1)) by omega]
      exact h
theorem td_t16s {n : Nat} (hg : ∀ i, i < 3 → a1 i = nI (g i)) (hb : ∀ i, g i < 10) (hj : j < 3) (h : wX_turned_16 post f a1 a2 a3 a4 a5 a6 a7 n (nI (10 * s + td_ab g j 3 0)) (nI (j + 1))) : wX_turned_16 post f a1 a2 a3 a4 a5 a6 a7 (n + 1) (nI s) (nI j) :=
  pk_le 3 j (fun z => absurd z (by omega)) (fun _ => ⟨4, td_t26 hg hb (by omega) 3 0 0 (by omega) (by rw [Nat.zero_add]; exact h)⟩)
theorem td_tuD (hs : td_S p q r) : p ≤ 3 →
    (td_ab (td_g p q r) 2 3 0 ≤ td_ab (td_g p q r) 1 3 0 ∧ td_ab (td_g p q r) 1 3 0 ≤ td_ab (td_g p q r) 0 3 0 ∧ td_ab (td_g p q r) 0 3 0 + td_ab (td_g p q r) 1 3 0 + td_ab (td_g p q r) 2 3 0 = p + q + r) :=
  of_decide_eq_true (td_each (Q := fun p q r => decide (p ≤ 3 → (td_ab (td_g p q r) 2 3 0 ≤ td_ab (td_g p q r) 1 3 0 ∧ td_ab (td_g p q r) 1 3 0 ≤ td_ab (td_g p q r) 0 3 0 ∧ td_ab (td_g p q r) 0 3 0 + td_ab (td_g p q r) 1 3 0 + td_ab (td_g p q r) 2 3 0 = p + q + r))) (by decide +kernel) hs)
theorem td_tu (hs : td_S p q r) (k : td_K a1 p q r) (h3 : p ≤ 3 → ∀ a b c, td_S a b c → a + b + c = p + q + r → post (nI (100 * a + 10 * b + c))) (h4 : 3 < p → post (-1)) : wpX_turned post (f, a1, a2, a3, a4, a5, a6, a7) := by
  have hg := td_Kg k
  have hp10 := td_Sp hs
  have hb := td_gB (td_Sp hs) (td_Sq hs) (td_Sr hs)
  unfold wpX_turned
  try dsimp only
  refine pk_le p 3 (fun z => ⟨4, td_t16s hg hb (s := 0) (j := 0) (by omega) (td_t16s hg hb (j := 1) (by omega) (td_t16s hg hb (j := 2) (by omega) ?_))⟩) h4 k.1
  obtain ⟨s1, s2, s3⟩ := hs
  obtain ⟨e1, e2, e3⟩ := td_tuD ⟨s1, s2, s3⟩ z
  refine pk_le 3 3 (fun _ => ?_) (fun z => absurd z (by omega))
  rw [show 10 * (10 * (10 * 0 + td_ab (td_g p q r) 0 3 0) + td_ab (td_g p q r) 1 3 0) + td_ab (td_g p q r) 2 3 0 = 100 * td_ab (td_g p q r) 0 3 0 + 10 * td_ab (td_g p q r) 1 3 0 + td_ab (td_g p q r) 2 3 0 by omega]
  exact h3 z _ _ _ ⟨e1, e2, by omega⟩ e3
/-! what fits -/
def td_fit (p q r : Nat) (x : Int32) : Prop := ∃ b0 b1 b2 : Nat, td_S b0 b1 b2 ∧ p + q + r + (b0 + b1 + b2) ≤ 6 ∧ x = nI (100 * b0 + 10 * b1 + b2)
theorem td_inj {a b c a' b' c' : Nat} (h : td_S a b c) (h' : td_S a' b' c') (e : nI (100 * a + 10 * b + c) = nI (100 * a' + 10 * b' + c')) : a = a' ∧ b = b' ∧ c = c' := by
  have hb := td_Sq h
  have hc := td_Sr h
  have hb' := td_Sq h'
  have hc' := td_Sr h'
  have h3 := h.2.2
  have h3' := h'.2.2
  have e' := (nI_eq (by omega) (by omega)).mp e
  exact ⟨(td_n1 hb hc).symm.trans ((congrArg (fun t => t / 100) e').trans (td_n1 hb' hc')), (td_n2 hb hc).symm.trans ((congrArg (fun t => t / 10 % 10) e').trans (td_n2 hb' hc')), (td_n3 hb hc).symm.trans ((congrArg (fun t => t % 10) e').trans (td_n3 hb' hc'))⟩
theorem td_nofit1 (h : ¬ td_sh x) : ¬ td_fit p q r x := fun ⟨b0, b1, b2, hb, _, e⟩ => h ⟨b0, b1, b2, hb, e⟩
theorem td_nofit2 {b0 b1 b2 : Nat} (hb : td_S b0 b1 b2) (h : 6 < p + q + r + (b0 + b1 + b2)) : ¬ td_fit p q r (nI (100 * b0 + 10 * b1 + b2)) := by
  rintro ⟨c0, c1, c2, hc, hl, e⟩
  obtain ⟨e1, e2, e3⟩ := td_inj hb hc e
  omega
/-! greatest -/
theorem td_gr (hs : td_S p q r) (k : td_K a1 p q r) (h1 : ∀ b0 b1 b2, td_S b0 b1 b2 → p + q + r + (b0 + b1 + b2) ≤ 6 → x = nI (100 * b0 + 10 * b1 + b2) → post (nI (100 * (p + b0) + 10 * (q + b1) + (r + b2)))) (h0 : ¬ td_fit p q r x → post (-1)) : wpX_greatest post (f, a1, a2, a3, a4, a5, a6, a7) x := by
  unfold wpX_greatest
  try dsimp only
  refine td_Xsh (fun t => br_f (by decide) ?_) (fun t => br_t rfl (h0 (td_nofit1 t)))
  obtain ⟨b0, b1, b2, hb, rfl⟩ := t
  have hb1 := hb.2.2
  have hs1 := hs.2.2
  refine td_ks k (td_XszS hb ?_)
  rw [nI_add]
  refine pk_le (p + q + r + (b0 + b1 + b2)) 6 (fun z => ?_) (fun z => h0 (td_nofit2 hb z))
  have t := h1 b0 b1 b2 hb z rfl
  rw [k.1, k.2.1, k.2.2, show (100 : Int32) * nI p = nI (100 * p) from pk_mul 100 p, show (10 : Int32) * nI q = nI (10 * q) from pk_mul 10 q, nI_add, nI_add, nI_add]
  rw [show 100 * p + 10 * q + r + (100 * b0 + 10 * b1 + b2) = 100 * (p + b0) + 10 * (q + b1) + (r + b2) by omega]
  exact t
/-! keep -/
theorem td_upd3 {a : Nat → Int32} {u v w : Int32} {b0 b1 b2 : Nat} (h0 : u = nI b0) (h1 : v = nI b1) (h2 : w = nI b2) : td_K (upd (upd (upd a 0 u) 1 v) 2 w) b0 b1 b2 := ⟨h0, h1, h2⟩
theorem td_kp {post : Int32 → St1 → Prop} (h1 : ∀ b0 b1 b2 a, td_S b0 b1 b2 → x = nI (100 * b0 + 10 * b1 + b2) → td_K a b0 b1 b2 → post (nI (b0 + b1 + b2)) (f, a, a2, a3, a4, a5, a6, a7)) (h0 : ¬ td_sh x → post (-1) (f, a1, a2, a3, a4, a5, a6, a7)) : wpX_keep post (f, a1, a2, a3, a4, a5, a6, a7) x := by
  unfold wpX_keep
  try dsimp only
  refine td_Xsh (fun t => br_f (by decide) ?_) (fun t => br_t rfl (h0 t))
  obtain ⟨b0, b1, b2, hb, rfl⟩ := t
  have p10 := td_Sp hb
  have q10 := td_Sq hb
  have r10 := td_Sr hb
  have hm : 100 * b0 + 10 * b1 + b2 < 2 ^ 31 := by omega
  rw [td_d100 hm, td_m10 hm, td_r10 hm, td_n1 q10 r10, td_n2 q10 r10, td_n3 q10 r10]
  exact ⟨by decide, nm_e ⟨by decide, by decide, nm_e ⟨by decide, nm_e (td_XszS hb (h1 b0 b1 b2 _ hb rfl (td_upd3 rfl rfl rfl)))⟩⟩⟩
end
end
section
section
variable {post : Int32 → Prop} {f : Int32} {a1 a2 a3 a4 a5 a6 a7 : Nat → Int32} {R P N B C : Nat → Nat} {t x k v : Nat}
/-! fitsBeside -/
/-- the number x at place t doesn't clash with the number at place k -/
abbrev td_ok (R P N : Nat → Nat) (t x k : Nat) : Prop := ¬ ((R k = R t ∧ P k = P t + 1) ∧ N k < x) ∧ ¬ ((R k + 1 = R t ∧ P k = P t) ∧ x ≤ N k)
theorem td_f100 {J2 : Int32 → Prop} {z : Int32} {ab : Prop} (hk : k < 6) (hN : a6 k = nI (N k)) (hNb : N k < 100) (hx : x < 100) (hz : (z = 0 ∧ ¬ ab) ∨ (z = 1 ∧ ab))
    (hJ : ¬ (ab ∧ x ≤ N k) → J2 (nI (k + 1))) (hp : (ab ∧ x ≤ N k) → post 0) : wX_fitsBeside_100 post J2 (nI t) (nI x) (nI k) z f a1 a2 a3 a4 a5 a6 a7 := by
  unfold wX_fitsBeside_100
  rcases hz with ⟨rfl, h⟩ | ⟨rfl, h⟩
  · exact br_t rfl (nm_r (nI_1 k) (hJ (fun c => h c.1)))
  · refine br_f (by decide) ⟨pk_in k 6 hk, ?_⟩
    rw [nI_clamp (show k < 2 ^ 31 by omega), hN]
    exact pk_lt (N k) x (fun c => nm_r (nI_1 k) (hJ (fun d => absurd d.2 (by omega)))) (fun c => hp ⟨h, c⟩)
theorem td_f83 {J2 : Int32 → Prop} {z4 z5 : Int32} {ri ab : Prop} (hk : k < 6) (hN : a6 k = nI (N k)) (hNb : N k < 100) (hx : x < 100) (h4 : (z4 = 0 ∧ ¬ ri) ∨ (z4 = 1 ∧ ri)) (h5 : (z5 = 0 ∧ ¬ ab) ∨ (z5 = 1 ∧ ab))
    (hJ : ¬ (ri ∧ N k < x) → ¬ (ab ∧ x ≤ N k) → J2 (nI (k + 1))) (hp : ((ri ∧ N k < x) ∨ (ab ∧ x ≤ N k)) → post 0) : wX_fitsBeside_83 post J2 (nI t) (nI x) (nI k) z4 z5 f a1 a2 a3 a4 a5 a6 a7 := by
  unfold wX_fitsBeside_83
  rcases h4 with ⟨rfl, h⟩ | ⟨rfl, h⟩
  · exact br_t rfl (td_f100 hk hN hNb hx h5 (hJ (fun c => h c.1)) (fun c => hp (Or.inr c)))
  · refine br_f (by decide) ⟨pk_in k 6 hk, ?_⟩
    rw [nI_clamp (show k < 2 ^ 31 by omega), hN]
    exact pk_lt (N k) x (fun c => hp (Or.inl ⟨h, c⟩)) (fun c => td_f100 hk hN hNb hx h5 (hJ (fun d => absurd d.2 (by omega))) (fun d => hp (Or.inr d)))
theorem td_sub1 {a b : Nat} (ha : a < 100) (hb : b < 100) : nI a = nI b - 1 ↔ a + 1 = b := by
  rw [← Int32.toInt_inj, nI_toInt (show a < 2 ^ 31 by omega), show nI b - 1 = nI b - nI 1 from rfl, pk_sub_toInt (show b < 2 ^ 30 by omega) (by decide)]
  omega
/-- what the arrays hold up to place t -/
abbrev td_A (R P N : Nat → Nat) (t : Nat) (a4 a5 a6 : Nat → Int32) : Prop := (∀ j, j ≤ t → (a4 j = nI (R j) ∧ R j < 50) ∧ (a5 j = nI (P j) ∧ P j < 50)) ∧ (∀ j, j < t → a6 j = nI (N j) ∧ N j < 50)
theorem td_f44 {J2 : Int32 → Prop} {z4 : Int32} {ri : Prop} (hk : k < t) (ht : t < 6) (hA : td_A R P N t a4 a5 a6) (hx : x < 100) (h4 : (z4 = 0 ∧ ¬ ri) ∨ (z4 = 1 ∧ ri))
    (hJ : ¬ (ri ∧ N k < x) → ¬ ((R k + 1 = R t ∧ P k = P t) ∧ x ≤ N k) → J2 (nI (k + 1))) (hp : ((ri ∧ N k < x) ∨ ((R k + 1 = R t ∧ P k = P t) ∧ x ≤ N k)) → post 0) : wX_fitsBeside_44 post J2 (nI t) (nI x) (nI k) z4 f a1 a2 a3 a4 a5 a6 a7 := by
  obtain ⟨⟨r1, r2⟩, p1, p2⟩ := hA.1 k (by omega)
  obtain ⟨⟨r3, r4⟩, p3, p4⟩ := hA.1 t (by omega)
  obtain ⟨n1, n2⟩ := hA.2 k hk
  have hk6 : k < 6 := by omega
  unfold wX_fitsBeside_44
  refine ⟨pk_in k 6 hk6, pk_in t 6 ht, ?_⟩
  rw [nI_clamp (show k < 2 ^ 31 by omega), nI_clamp (show t < 2 ^ 31 by omega), r1, r3, p1, p3]
  exact ek_if (td_sub1 (by omega) (by omega))
    (fun e => ⟨pk_in k 6 hk6, pk_in t 6 ht, pk_eq (P k) (P t) (fun e2 => td_f83 hk6 n1 (by omega) hx h4 (Or.inr ⟨rfl, e, e2⟩) hJ hp) (fun e2 => td_f83 hk6 n1 (by omega) hx h4 (Or.inl ⟨rfl, fun c => e2 c.2⟩) hJ hp)⟩)
    (fun e => td_f83 hk6 n1 (by omega) hx h4 (Or.inl ⟨rfl, fun c => e c.1⟩) hJ hp)
theorem td_fS {n : Nat} (hk : k < t) (ht : t < 6) (hA : td_A R P N t a4 a5 a6) (hx : x < 100) (hJ : td_ok R P N t x k → wX_fitsBeside_2 post (nI t) (nI x) f a1 a2 a3 a4 a5 a6 a7 n (nI (k + 1))) (hp : ¬ td_ok R P N t x k → post 0) :
    wX_fitsBeside_2 post (nI t) (nI x) f a1 a2 a3 a4 a5 a6 a7 (n + 1) (nI k) := by
  obtain ⟨⟨r1, r2⟩, p1, p2⟩ := hA.1 k (by omega)
  obtain ⟨⟨r3, r4⟩, p3, p4⟩ := hA.1 t (by omega)
  have hk6 : k < 6 := by omega
  have hp' : (((R k = R t ∧ P k = P t + 1) ∧ N k < x) ∨ ((R k + 1 = R t ∧ P k = P t) ∧ x ≤ N k)) → post 0 := fun c => hp (fun o => c.elim o.1 o.2)
  have hJ' : ¬ ((R k = R t ∧ P k = P t + 1) ∧ N k < x) → ¬ ((R k + 1 = R t ∧ P k = P t) ∧ x ≤ N k) → wX_fitsBeside_2 post (nI t) (nI x) f a1 a2 a3 a4 a5 a6 a7 n (nI (k + 1)) := fun a b => hJ ⟨a, b⟩
  refine pk_le t k (fun z => absurd z (by omega)) (fun _ => And.intro (pk_in k 6 hk6) (And.intro (pk_in t 6 ht) ?_))
  rw [nI_clamp (show k < 2 ^ 31 by omega), nI_clamp (show t < 2 ^ 31 by omega), r1, r3, p1, p3, nI_1]
  exact pk_eq (R k) (R t)
    (fun e => ⟨pk_in k 6 hk6, pk_in t 6 ht, pk_eq (P k) (P t + 1) (fun e2 => td_f44 hk ht hA hx (Or.inr ⟨rfl, e, e2⟩) hJ' hp') (fun e2 => td_f44 hk ht hA hx (Or.inl ⟨rfl, fun c => e2 c.2⟩) hJ' hp')⟩)
    (fun e => td_f44 hk ht hA hx (Or.inl ⟨rfl, fun c => e c.1⟩) hJ' hp')
theorem td_fL (ht : t < 6) (hA : td_A R P N t a4 a5 a6) (hx : x < 100) : ∀ d k : Nat, k + d = t → ((∀ j, k ≤ j → j < t → td_ok R P N t x j) → post 1) → (¬ (∀ j, k ≤ j → j < t → td_ok R P N t x j) → post 0) → wX_fitsBeside_2 post (nI t) (nI x) f a1 a2 a3 a4 a5 a6 a7 (d + 1) (nI k) := by
  intro d
  induction d with
  | zero =>
    intro k e h1 h0
    exact pk_le t k (fun _ => h1 (fun j a b => absurd b (by omega))) (fun z => absurd z (by omega))
  | succ d ih =>
    intro k e h1 h0
    refine td_fS (by omega) ht hA hx (fun ok => ih (k + 1) (by omega) (fun hh => h1 (fun j a b => ?_)) (fun hh => h0 (fun all => hh (fun j a b => all j (by omega) b)))) (fun no => h0 (fun all => no (all k (by omega) (by omega))))
    by_cases ej : j = k
    · rw [ej]
      exact ok
    · exact hh j (by omega) b
theorem td_fb (ht : t < 6) (hA : td_A R P N t a4 a5 a6) (hx : x < 100) (h1 : (∀ j, j < t → td_ok R P N t x j) → post 1) (h0 : ¬ (∀ j, j < t → td_ok R P N t x j) → post 0) : wpX_fitsBeside post (f, a1, a2, a3, a4, a5, a6, a7) (nI t) (nI x) :=
  ⟨t + 1, td_fL ht hA hx t 0 (by omega) (fun h => h1 (fun j b => h j (by omega) b)) (fun h => h0 (fun all => h (fun j _ b => all j b)))⟩
/-! nextNumber -/
def td_can (R P N B C : Nat → Nat) (t x : Nat) : Bool := decide ((C x < B (x - 1) ∧ (x = 1 ∨ C x < C (x - 1))) ∧ ∀ j, j < t → td_ok R P N t x j)
def td_nx (can : Nat → Bool) : Nat → Nat → Nat
  | 0, _ => 0
  | d + 1, x => if can x = true then x else td_nx can d (x + 1)
theorem td_nxB (can : Nat → Bool) : ∀ d x, td_nx can d x = 0 ∨ (x ≤ td_nx can d x ∧ td_nx can d x < x + d) := by
  intro d
  induction d with
  | zero => intro x; exact Or.inl rfl
  | succ d ih =>
    intro x
    unfold td_nx
    split
    · exact Or.inr ⟨Nat.le_refl x, by omega⟩
    · rcases ih (x + 1) with h | h
      · exact Or.inl h
      · exact Or.inr ⟨by omega, by omega⟩
theorem td_n9 (ht : t < 6) (hA : td_A R P N t a4 a5 a6) (hB : ∀ j, j < 3 → a3 j = nI (B j) ∧ B j < 50) (hC : ∀ j, 1 ≤ j → j ≤ 3 → a7 j = nI (C j) ∧ C j < 50) : ∀ d y : Nat, y + 1 + d = 4 → post (nI (td_nx (td_can R P N B C t) d (y + 1))) → wX_nextNumber_9 post (nI t) f a1 a2 a3 a4 a5 a6 a7 (d + 1) (nI (y + 1)) := by
  intro d
  induction d with
  | zero =>
    intro y e hp
    exact pk_lt 3 (y + 1) (fun _ => hp) (fun z => absurd z (by omega))
  | succ d ih =>
    intro y e hp
    obtain ⟨b1, b2⟩ := hB y (by omega)
    obtain ⟨c1, c2⟩ := hC (y + 1) (by omega) (by omega)
    unfold td_nx at hp
    have hno : ¬ ((C (y + 1) < B y ∧ (y + 1 = 1 ∨ C (y + 1) < C y)) ∧ ∀ j, j < t → td_ok R P N t (y + 1) j) → ∀ z, z = nI (y + 1) + 1 → wX_nextNumber_9 post (nI t) f a1 a2 a3 a4 a5 a6 a7 (d + 1) z := by
      intro h
      rw [if_neg (by unfold td_can; rw [decide_eq_true_eq]; exact h)] at hp
      exact nm_r (nI_1 (y + 1)) (ih (y + 1) (by omega) hp)
    have hyes : ((C (y + 1) < B y ∧ (y + 1 = 1 ∨ C (y + 1) < C y)) ∧ ∀ j, j < t → td_ok R P N t (y + 1) j) → post (nI (y + 1)) := by
      intro h
      rw [if_pos (by unfold td_can; rw [decide_eq_true_eq]; exact h)] at hp
      exact hp
    refine pk_lt 3 (y + 1) (fun z => absurd z (by omega)) (fun _ => And.intro (pk_in (y + 1) 4 (by omega)) (And.intro (pk_in y 3 (by omega) (nI_pred y)) ?_))
    rw [nI_pred y, nI_clamp (show y < 2 ^ 31 by omega), nI_clamp (show y + 1 < 2 ^ 31 by omega), b1, c1]
    have h57 : ¬ (C (y + 1) < B y ∧ (y + 1 = 1 ∨ C (y + 1) < C y)) → wX_nextNumber_57 post (wX_nextNumber_9 post (nI t) f a1 a2 a3 a4 a5 a6 a7 (d + 1)) (nI t) (nI (y + 1)) f a1 a2 a3 a4 a5 a6 a7 := by
      intro h
      exact br_t rfl (hno (fun c => h c.1))
    have h53 : (C (y + 1) < B y ∧ (y + 1 = 1 ∨ C (y + 1) < C y)) → wX_nextNumber_53 post (wX_nextNumber_9 post (nI t) f a1 a2 a3 a4 a5 a6 a7 (d + 1)) (nI t) (nI (y + 1)) f a1 a2 a3 a4 a5 a6 a7 := by
      intro h
      exact br_f (by decide) (td_fb ht hA (by omega) (fun all => br_f (by decide) (hyes ⟨h, all⟩)) (fun no => br_t rfl (hno (fun c => no c.2))))
    refine pk_le (B y) (C (y + 1)) (fun z => h57 (by omega)) (fun z => pk_eq (y + 1) 1 (fun e1 => h53 ⟨z, Or.inl e1⟩) (fun e1 => And.intro (pk_in (y + 1) 4 (by omega)) (And.intro (pk_in y 4 (by omega)) ?_)))
    obtain ⟨c3, c4⟩ := hC y (by omega) (by omega)
    rw [c3]
    exact pk_le (C y) (C (y + 1)) (fun z2 => h57 (by omega)) (fun z2 => h53 ⟨z, Or.inr z2⟩)
theorem td_nn (ht : t < 6) (hA : td_A R P N t a4 a5 a6) (hB : ∀ j, j < 3 → a3 j = nI (B j) ∧ B j < 50) (hC : ∀ j, 1 ≤ j → j ≤ 3 → a7 j = nI (C j) ∧ C j < 50) (hv : a6 t = nI v) (hv3 : v ≤ 3) (hp : post (nI (td_nx (td_can R P N B C t) (3 - v) (v + 1)))) : wpX_nextNumber post (f, a1, a2, a3, a4, a5, a6, a7) (nI t) := by
  unfold wpX_nextNumber
  try dsimp only
  refine ⟨pk_in t 6 ht, ?_⟩
  rw [nI_clamp (show t < 2 ^ 31 by omega), hv]
  exact nm_r (nI_1 v) ⟨3 - v + 1, td_n9 ht hA hB hC (3 - v) v (by omega) hp⟩
end
end
section
section
variable {f : Int32} {a1 a2 a3 a4 a5 a6 a7 : Nat → Int32} {B : Nat → Nat} {v n y w : Nat} {stk l : List Nat} {cs : List (Nat × Nat)}
/-- the place j, counted from the bottom of a stack -/
def td_gt {α : Type} (z : α) : List α → Nat → α
  | [], _ => z
  | y :: l, j => if j = l.length then y else td_gt z l j
/-- how often k lies in a stack -/
def td_cn : List Nat → Nat → Nat
  | [], _ => 0
  | y :: l, k => (if y = k then 1 else 0) + td_cn l k
theorem td_cnC (y k : Nat) (l : List Nat) : td_cn (y :: l) k = (if y = k then 1 else 0) + td_cn l k := rfl
theorem td_cnB (k : Nat) : ∀ l : List Nat, td_cn l k ≤ l.length := by
  intro l
  induction l with
  | nil => exact Nat.le_refl 0
  | cons y l ih =>
    unfold td_cn
    rw [List.length_cons]
    split <;> omega
theorem td_gtB {b : Nat} (hb : 0 < b) (j : Nat) : ∀ l : List Nat, (∀ y, y ∈ l → y < b) → td_gt 0 l j < b := by
  intro l
  induction l with
  | nil => intro _; exact hb
  | cons y l ih =>
    intro h
    unfold td_gt
    split
    · exact h y List.mem_cons_self
    · exact ih (fun z hz => h z (List.mem_cons_of_mem y hz))
def td_next (cs : List (Nat × Nat)) (B : Nat → Nat) (stk : List Nat) (v : Nat) : Nat :=
  td_nx (td_can (fun j => (td_gt (0, 0) cs j).1) (fun j => (td_gt (0, 0) cs j).2) (fun j => td_gt 0 stk j) B (fun k => td_cn stk k) stk.length) (3 - v) (v + 1)
/-- the search, a step at a time: f found so far, the numbers in a stack, v at the place that is tried -/
def td_sim (cs : List (Nat × Nat)) (B : Nat → Nat) : Nat → Nat → List Nat → Nat → Nat
  | 0, f, _, _ => f
  | n + 1, f, stk, v => if stk.length = cs.length then (match stk with
      | [] => f + 1
      | y :: l => td_sim cs B n (f + 1) l y) else if td_next cs B stk v = 0 then (match stk with
      | [] => f
      | y :: l => td_sim cs B n f l y) else td_sim cs B n f (td_next cs B stk v :: stk) 0
theorem td_simB : ∀ n f stk v, td_sim cs B n f stk v ≤ f + n := by
  intro n
  induction n with
  | zero => intro f stk v; exact Nat.le_refl f
  | succ n ih =>
    intro f stk v
    unfold td_sim
    split
    · cases stk with
      | nil => exact (by omega : f + 1 ≤ f + (n + 1))
      | cons y l => exact Nat.le_trans (ih (f + 1) l y) (by omega)
    · split
      · cases stk with
        | nil => exact (by omega : f ≤ f + (n + 1))
        | cons y l => exact Nat.le_trans (ih f l y) (by omega)
      · exact Nat.le_trans (ih f _ 0) (by omega)
/-- the arrays hold the stack, v at its top's next place, nothing beyond -/
def td_R (n : Nat) (stk : List Nat) (v : Nat) (a6 a7 : Nat → Int32) : Prop :=
  (∀ j, j < stk.length → a6 j = nI (td_gt 0 stk j)) ∧ (stk.length < n → a6 stk.length = nI v) ∧ (∀ j, stk.length < j → j < n → a6 j = nI 0) ∧
  (∀ k, 1 ≤ k → k ≤ 3 → a7 k = nI (td_cn stk k + if v = k then 1 else 0)) ∧ (∀ y, y ∈ stk → 1 ≤ y ∧ y ≤ 3) ∧ v ≤ 3 ∧ stk.length ≤ n ∧ (stk.length = n → v = 0)
/-- the same, the place that is tried left out -/
def td_Q (n : Nat) (stk : List Nat) (a6 a7 : Nat → Int32) : Prop :=
  (∀ j, j < stk.length → a6 j = nI (td_gt 0 stk j)) ∧ (∀ j, stk.length < j → j < n → a6 j = nI 0) ∧
  (∀ k, 1 ≤ k → k ≤ 3 → a7 k = nI (td_cn stk k)) ∧ (∀ y, y ∈ stk → 1 ≤ y ∧ y ≤ 3) ∧ stk.length < n
theorem td_gtT {α : Type} (z y : α) (l : List α) : td_gt z (y :: l) l.length = y := if_pos rfl
theorem td_gtN {α : Type} (z y : α) (l : List α) {j : Nat} (h : j ≠ l.length) : td_gt z (y :: l) j = td_gt z l j := if_neg h
theorem td_pop (h : td_R n (y :: l) 0 a6 a7) : td_R n l y a6 a7 := by
  obtain ⟨h1, h2, h3, h4, h5, h6, h7, h8⟩ := h
  rw [List.length_cons] at h1 h2 h3 h7 h8
  have hy := h5 y List.mem_cons_self
  refine ⟨fun j hj => ?_, fun _ => ?_, fun j hj hn => ?_, fun k k1 k3 => ?_, fun z hz => h5 z (List.mem_cons_of_mem y hz), hy.2, by omega, fun e => by omega⟩
  · rw [h1 j (by omega), td_gtN 0 y l (by omega)]
  · rw [h1 l.length (by omega), td_gtT]
  · by_cases e : j = l.length + 1
    · rw [e]
      exact h2 (by omega)
    · exact h3 j (by omega) hn
  · rw [h4 k k1 k3, if_neg (show ¬ 0 = k by omega), td_cnC]
    exact congrArg nI (by omega)
theorem td_dec0 (h : td_R n stk 0 a6 a7) (hn : stk.length < n) : td_Q n stk a6 a7 := by
  obtain ⟨h1, h2, h3, h4, h5, h6, h7, h8⟩ := h
  refine ⟨h1, h3, fun k k1 k3 => ?_, h5, hn⟩
  rw [h4 k k1 k3, if_neg (show ¬ 0 = k by omega)]
  rfl
theorem td_dec (h : td_R n stk (v + 1) a6 a7) (hn : stk.length < n) : td_Q n stk a6 (upd a7 (v + 1) (a7 (v + 1) - 1)) := by
  obtain ⟨h1, h2, h3, h4, h5, h6, h7, h8⟩ := h
  refine ⟨h1, h3, fun k k1 k3 => ?_, h5, hn⟩
  by_cases e : k = v + 1
  · rw [e, pk_us, h4 (v + 1) (by omega) h6, if_pos rfl, nI_pred]
  · rw [pk_un e, h4 k k1 k3, if_neg (fun c => e c.symm)]
    rfl
theorem td_set0 (h : td_Q n stk a6 a7) : td_R n stk 0 (upd a6 stk.length (nI 0)) a7 := by
  obtain ⟨h1, h2, h3, h4, h5⟩ := h
  refine ⟨fun j hj => ?_, fun _ => pk_us, fun j hj hn => ?_, fun k k1 k3 => ?_, h4, by omega, by omega, fun e => rfl⟩
  · rw [pk_un (by omega)]
    exact h1 j hj
  · rw [pk_un (by omega)]
    exact h2 j hj hn
  · rw [h3 k k1 k3, if_neg (show ¬ 0 = k by omega)]
    rfl
theorem td_push (h : td_Q n stk a6 a7) (hw1 : 1 ≤ w) (hw3 : w ≤ 3) : td_R n (w :: stk) 0 (upd a6 stk.length (nI w)) (upd a7 w (a7 w + 1)) := by
  obtain ⟨h1, h2, h3, h4, h5⟩ := h
  refine ⟨fun j hj => ?_, fun hn => ?_, fun j hj hn => ?_, fun k k1 k3 => ?_, fun z hz => ?_, by omega, h5, fun e => rfl⟩
  · rw [List.length_cons] at hj
    by_cases e : j = stk.length
    · rw [e, pk_us, td_gtT]
    · rw [pk_un e, td_gtN 0 w stk e]
      exact h1 j (by omega)
  · rw [List.length_cons] at hn
    rw [List.length_cons, pk_un (by omega)]
    exact h2 _ (by omega) hn
  · rw [List.length_cons] at hj
    rw [pk_un (by omega)]
    exact h2 j (by omega) hn
  · rw [td_cnC, if_neg (show ¬ 0 = k by omega)]
    by_cases e : k = w
    · rw [e, pk_us, h3 w hw1 hw3, nI_1, if_pos rfl]
      exact congrArg nI (by omega)
    · rw [pk_un e, h3 k k1 k3, if_neg (fun c => e c.symm)]
      exact congrArg nI (by omega)
  · rcases List.mem_cons.mp hz with e | e
    · rw [e]
      exact ⟨hw1, hw3⟩
    · exact h4 z e
/-- what the arrays of the cells hold -/
def td_D (cs : List (Nat × Nat)) (a4 a5 : Nat → Int32) : Prop := ∀ j, j < cs.length → (a4 j = nI (td_gt (0, 0) cs j).1 ∧ (td_gt (0, 0) cs j).1 < 50) ∧ (a5 j = nI (td_gt (0, 0) cs j).2 ∧ (td_gt (0, 0) cs j).2 < 50)
theorem td_58 {post : Int32 → St1 → Prop} {J6 : Int32 → Int32 → Int32 → (Nat → Int32) → (Nat → Int32) → (Nat → Int32) → (Nat → Int32) → (Nat → Int32) → (Nat → Int32) → (Nat → Int32) → Prop} {x1 : Int32} {step : Nat}
    (hc : cs.length ≤ 6) (hD : td_D cs a4 a5) (hB : ∀ j, j < 3 → a3 j = nI (B j) ∧ B j < 50) (hQ : td_Q cs.length stk a6 a7) (hv : a6 stk.length = nI v) (hv3 : v ≤ 3)
    (hpop : td_next cs B stk v = 0 → J6 x1 (nI stk.length + (-1)) (nI (step + 1)) a1 a2 a3 a4 a5 (upd a6 stk.length (nI 0)) a7)
    (hpush : ∀ w, w = td_next cs B stk v → 1 ≤ w → w ≤ 3 → J6 x1 (nI (stk.length + 1)) (nI (step + 1)) a1 a2 a3 a4 a5 (upd a6 stk.length (nI w)) (upd a7 w (a7 w + 1))) :
    wX_tryNumbers_58 post J6 x1 (nI stk.length) (nI step) f a1 a2 a3 a4 a5 a6 a7 := by
  obtain ⟨h1, h2, h3, h4, h5⟩ := hQ
  have hl : stk.length < 6 := by omega
  have key : ∀ w, w = td_next cs B stk v → w ≤ 3 := by
    intro w e
    have t := td_nxB (td_can (fun j => (td_gt (0, 0) cs j).1) (fun j => (td_gt (0, 0) cs j).2) (fun j => td_gt 0 stk j) B (fun k => td_cn stk k) stk.length) (3 - v) (v + 1)
    rw [e]
    unfold td_next
    omega
  unfold wX_tryNumbers_58
  refine td_nn (R := fun j => (td_gt (0, 0) cs j).1) (P := fun j => (td_gt (0, 0) cs j).2) (N := fun j => td_gt 0 stk j) (B := B) (C := fun k => td_cn stk k) (v := v) hl ⟨fun j hj => hD j (by omega), fun j hj => ⟨h1 j hj, td_gtB (by omega) j stk (fun y hy => Nat.lt_of_le_of_lt (h4 y hy).2 (by omega))⟩⟩ hB (fun j j1 j3 => ⟨h3 j j1 j3, Nat.lt_of_le_of_lt (td_cnB j stk) (by omega)⟩) hv hv3 ?_
  have key2 := key _ rfl
  have hpush2 := hpush _ rfl
  unfold td_next at key2 hpop hpush2
  generalize td_nx (td_can (fun j => (td_gt (0, 0) cs j).1) (fun j => (td_gt (0, 0) cs j).2) (fun j => td_gt 0 stk j) B (fun k => td_cn stk k) stk.length) (3 - v) (v + 1) = w at key2 hpop hpush2 ⊢
  rw [nI_clamp (show stk.length < 2 ^ 31 by omega)]
  refine And.intro (pk_in stk.length 6 hl) (nm_e (And.intro (pk_in stk.length 6 hl) ?_))
  rw [pk_us]
  refine pk_eq w 0 (fun e => nm_e (nm_r (nI_1 step) ?_)) (fun e => And.intro (pk_in stk.length 6 hl) (And.intro (pk_in w 4 (by omega)) (And.intro (pk_in w 4 (by omega)) (nm_r (by rw [nI_clamp (show w < 2 ^ 31 by omega)]) (nm_r (nI_1 stk.length) (nm_r (nI_1 step) (hpush2 (by omega) key2)))))))
  rw [e]
  exact hpop e
theorem td_end {post : Int32 → St1 → Prop} {x1 x2 x3 : Int32} {m : Nat} (hx : x2 < 0) (hp : post x1 (f, a1, a2, a3, a4, a5, a6, a7)) : wX_tryNumbers_6 post f (m + 1) x1 x2 x3 a1 a2 a3 a4 a5 a6 a7 := by
  by_cases h : 5000 ≤ x3
  · exact br_t h hp
  · exact br_f h (br_t hx hp)
theorem td_try {post : Int32 → St1 → Prop} (hc : cs.length ≤ 6) (hD : td_D cs a4 a5) (hB : ∀ j, j < 3 → a3 j = nI (B j) ∧ B j < 50) : ∀ (m step f : Nat) (stk : List Nat) (v : Nat) (a6 a7 : Nat → Int32), step + m = 5000 → td_R cs.length stk v a6 a7 →
    (∀ b6 b7, post (nI (td_sim cs B m f stk v)) (nI cs.length, a1, a2, a3, a4, a5, b6, b7)) → wX_tryNumbers_6 post (nI cs.length) (m + 1) (nI f) (nI stk.length) (nI step) a1 a2 a3 a4 a5 a6 a7 := by
  intro m
  induction m with
  | zero =>
    intro step f stk v a6 a7 e hR H
    exact pk_le 5000 step (fun _ => H a6 a7) (fun z => absurd z (by omega))
  | succ m ih =>
    intro step f stk v a6 a7 e hR H
    have hR' := hR
    obtain ⟨h1, h2, h3, h4, h5, h6, h7, h8⟩ := hR'
    refine pk_le 5000 step (fun z => absurd z (by omega)) (fun _ => br_f (nI_pos (by omega)) (pk_eq stk.length cs.length (fun e1 => ?_) (fun e1 => ?_)))
    · have hv := h8 e1
      cases stk with
      | nil =>
        refine nm_r (nI_1 f) (nm_e (nm_r (nI_1 step) (td_end (by decide) ?_)))
        have t := H a6 a7
        unfold td_sim at t
        rw [if_pos e1] at t
        exact t
      | cons y l =>
        refine nm_r (nI_1 f) (nm_r (pk_m1 l.length) (nm_r (nI_1 step) (ih (step + 1) (f + 1) l y a6 a7 (by omega) (td_pop (by rw [hv] at hR; exact hR)) (fun b6 b7 => ?_))))
        have t := H b6 b7
        unfold td_sim at t
        rw [if_pos e1] at t
        exact t
    · have hl : stk.length < cs.length := by omega
      have hv := h2 hl
      have main : ∀ c7, td_Q cs.length stk a6 c7 → wX_tryNumbers_58 post (wX_tryNumbers_6 post (nI cs.length) (m + 1)) (nI f) (nI stk.length) (nI step) (nI cs.length) a1 a2 a3 a4 a5 a6 c7 := by
        intro c7 hQ
        refine td_58 hc hD hB hQ hv h6 (fun e2 => ?_) (fun w ew w1 w3 => ih (step + 1) f (w :: stk) 0 _ _ (by omega) (td_push hQ w1 w3) (fun b6 b7 => ?_))
        · cases stk with
          | nil =>
            refine td_end (by decide) ?_
            have t := H (upd a6 0 (nI 0)) c7
            unfold td_sim at t
            rw [if_neg e1, if_pos e2] at t
            exact t
          | cons y l =>
            have t : wX_tryNumbers_6 post (nI cs.length) (m + 1) (nI f) (nI l.length) (nI (step + 1)) a1 a2 a3 a4 a5 (upd a6 (y :: l).length (nI 0)) c7 := by
              refine ih (step + 1) f l y _ _ (by omega) (td_pop (td_set0 hQ)) (fun b6 b7 => ?_)
              have t := H b6 b7
              unfold td_sim at t
              rw [if_neg e1, if_pos e2] at t
              exact t
            rw [← pk_m1 l.length] at t
            exact t
        · have t := H b6 b7
          unfold td_sim at t
          rw [if_neg e1, if_neg (by omega)] at t
          rw [ew]
          exact t
      refine And.intro (pk_in stk.length 6 (by omega)) ?_
      rw [nI_clamp (show stk.length < 2 ^ 31 by omega), hv]
      refine pk_le v 0 (fun z => ?_) (fun z => And.intro (pk_in stk.length 6 (by omega)) (And.intro (pk_in v 4 (by omega)) (And.intro (pk_in v 4 (by omega)) ?_)))
      · have e0 : v = 0 := by omega
        rw [e0] at hR
        exact main a7 (td_dec0 hR hl)
      · obtain ⟨u, rfl⟩ : ∃ u, v = u + 1 := ⟨v - 1, by omega⟩
        rw [nI_clamp (show u + 1 < 2 ^ 31 by omega)]
        exact nm_e (main _ (td_dec hR hl))
theorem td_tn {post : Int32 → St1 → Prop} (hc : cs.length ≤ 6) (hD : td_D cs a4 a5) (h6 : ∀ j, j < cs.length → a6 j = nI 0) (h7 : ∀ j, j < 4 → a7 j = nI 0) (hB : ∀ j, j < 3 → a3 j = nI (B j) ∧ B j < 50)
    (H : ∀ b6 b7, post (nI (td_sim cs B 5000 0 [] 0)) (nI cs.length, a1, a2, a3, a4, a5, b6, b7)) : wpX_tryNumbers post (nI cs.length, a1, a2, a3, a4, a5, a6, a7) := by
  refine ⟨5001, td_try hc hD hB 5000 0 0 [] 0 a6 a7 (by omega) ⟨fun j hj => absurd hj (Nat.not_lt_zero j), fun h => h6 0 h, fun j _ hn => h6 j hn, fun k k1 k3 => ?_, fun y hy => absurd hy List.not_mem_nil, by omega, Nat.zero_le _, fun _ => rfl⟩ H⟩
  rw [h7 k (by omega), if_neg (show ¬ 0 = k by omega)]
  rfl
end
end
section
section
variable {f : Int32} {a1 a2 a3 a4 a5 a6 a7 : Nat → Int32} {i j lo p q r l0 l1 l2 b0 b1 b2 : Nat} {cs : List (Nat × Nat)}
/-! listCells -/
def td_C (cs : List (Nat × Nat)) (a4 a5 a6 : Nat → Int32) : Prop := td_D cs a4 a5 ∧ ∀ j, j < cs.length → a6 j = nI 0
theorem td_Cp (h : td_C cs a4 a5 a6) (hi : i < 50) (hj : j < 50) : td_C ((i, j) :: cs) (upd a4 cs.length (nI i)) (upd a5 cs.length (nI j)) (upd a6 cs.length 0) := by
  refine ⟨fun k hk => ?_, fun k hk => ?_⟩
  · rw [List.length_cons] at hk
    by_cases e : k = cs.length
    · rw [e, pk_us, pk_us, td_gtT]
      exact ⟨⟨rfl, hi⟩, rfl, hj⟩
    · rw [pk_un e, pk_un e, td_gtN _ _ _ e]
      exact h.1 k (by omega)
  · rw [List.length_cons] at hk
    by_cases e : k = cs.length
    · rw [e, pk_us]
      rfl
    · rw [pk_un e]
      exact h.2 k (by omega)
def td_row (i lo : Nat) : Nat → List (Nat × Nat) → List (Nat × Nat)
  | 0, cs => cs
  | d + 1, cs => td_row i lo d ((i, lo + d) :: cs)
theorem td_rowL (i lo : Nat) : ∀ d cs, (td_row i lo d cs).length = cs.length + d := by
  intro d
  induction d with
  | zero => intro cs; rfl
  | succ d ih =>
    intro cs
    unfold td_row
    rw [ih, List.length_cons]
    omega
theorem td_l21 {post : St1 → Prop} {J7 : Int32 → Int32 → (Nat → Int32) → (Nat → Int32) → (Nat → Int32) → (Nat → Int32) → (Nat → Int32) → (Nat → Int32) → (Nat → Int32) → Prop} (hi : i < 3) (hlo : a1 i = nI lo) (hl : lo < 10) : ∀ (d : Nat) (cs : List (Nat × Nat)) (a4 a5 a6 : Nat → Int32), cs.length + d ≤ 6 → td_C cs a4 a5 a6 →
    (∀ b4 b5 b6, td_C (td_row i lo d cs) b4 b5 b6 → J7 (nI (i + 1)) (nI (td_row i lo d cs).length) a1 a2 a3 b4 b5 b6 a7) →
    wX_listCells_21 post J7 (nI i) (d + 1) (nI (lo + d) - 1) (nI cs.length) a1 a2 a3 a4 a5 a6 a7 := by
  intro d
  induction d with
  | zero =>
    intro cs a4 a5 a6 hd hC H
    refine And.intro (pk_in i 3 hi) ?_
    rw [nI_clamp (show i < 2 ^ 31 by omega), hlo]
    refine br_t ?_ (nm_r (nI_1 i) (H a4 a5 a6 hC))
    rw [Int32.lt_iff_toInt_lt, show nI (lo + 0) - 1 = nI lo - nI 1 from rfl, pk_sub_toInt (by omega) (by decide), nI_toInt (by omega)]
    omega
  | succ d ih =>
    intro cs a4 a5 a6 hd hC H
    refine And.intro (pk_in i 3 hi) ?_
    rw [nI_clamp (show i < 2 ^ 31 by omega), hlo, show lo + (d + 1) = lo + d + 1 by omega, nI_pred, nI_clamp (show cs.length < 2 ^ 31 by omega)]
    refine br_f (nI_nlt (by omega) (by omega)) (And.intro (pk_in cs.length 6 (by omega)) (nm_e (And.intro (pk_in cs.length 6 (by omega)) (nm_e (And.intro (pk_in cs.length 6 (by omega)) (nm_e (nm_r (nI_1 cs.length) (nm_r (Int32.sub_eq_add_neg _ _).symm (ih ((i, lo + d) :: cs) _ _ _ (by rw [List.length_cons]; omega) (td_Cp hC (by omega) (by omega)) H)))))))))
theorem td_l7s {post : St1 → Prop} {n d : Nat} (hi : i < 3) (hlo : a1 i = nI lo) (hla : a2 i = nI (lo + d)) (hl : lo < 10) (hd : cs.length + d ≤ 6) (hC : td_C cs a4 a5 a6)
    (H : ∀ b4 b5 b6, td_C (td_row i lo d cs) b4 b5 b6 → wX_listCells_7 post n (nI (i + 1)) (nI (td_row i lo d cs).length) a1 a2 a3 b4 b5 b6 a7) : wX_listCells_7 post (n + 1) (nI i) (nI cs.length) a1 a2 a3 a4 a5 a6 a7 := by
  refine pk_le 3 i (fun z => absurd z (by omega)) (fun _ => And.intro (pk_in i 3 hi) ?_)
  rw [nI_clamp (show i < 2 ^ 31 by omega), hla]
  exact nm_e ⟨d + 1, td_l21 hi hlo hl d cs a4 a5 a6 hd hC H⟩
theorem td_l85 {post : St1 → Prop} (H : ∀ b7, (∀ j, j < 4 → b7 j = nI 0) → post (f, a1, a2, a3, a4, a5, a6, b7)) : ∃ n, wX_listCells_85 post f n 0 a1 a2 a3 a4 a5 a6 a7 :=
  pk_loop (fun n i s => wX_listCells_85 post f n (nI i) a1 a2 a3 a4 a5 a6 s) (fun i s => ∀ j, j < i → s j = nI 0) 4 0 a7 (by omega) (fun j hj => absurd hj (by omega))
    (fun n s h => pk_le 4 4 (fun _ => H s h) (fun z => absurd z (by omega)))
    (fun n i s hi h hw => pk_le 4 i (fun z => absurd z (by omega)) (fun _ => And.intro (pk_in i 4 (by omega)) (nm_e (nm_r (nI_1 i) (hw _ (fun j hj => by
      rw [nI_clamp (show i < 2 ^ 31 by omega)]
      by_cases e : j = i
      · rw [e, pk_us]
        rfl
      · rw [pk_un e]
        exact h j (by omega)))))))
/-- the cells of the large shape that the kept one has not -/
def td_cs (p q r l0 l1 l2 : Nat) : List (Nat × Nat) := td_row 2 r (l2 - r) (td_row 1 q (l1 - q) (td_row 0 p (l0 - p) []))
theorem td_csL (p q r l0 l1 l2 : Nat) : (td_cs p q r l0 l1 l2).length = (l0 - p) + (l1 - q) + (l2 - r) := by
  unfold td_cs
  rw [td_rowL, td_rowL, td_rowL, List.length_nil]
  omega
theorem td_C0 : td_C [] a4 a5 a6 := ⟨fun j hj => absurd hj (Nat.not_lt_zero j), fun j hj => absurd hj (Nat.not_lt_zero j)⟩
theorem td_lc {post : St1 → Prop} (k : td_K a1 p q r) (k2 : td_K a2 l0 l1 l2) (hp : p < 10) (hq : q < 10) (hr : r < 10) (g0 : p ≤ l0) (g1 : q ≤ l1) (g2 : r ≤ l2) (hl : (l0 - p) + (l1 - q) + (l2 - r) ≤ 6)
    (H : ∀ b4 b5 b6 b7, td_C (td_cs p q r l0 l1 l2) b4 b5 b6 → (∀ j, j < 4 → b7 j = nI 0) → post (nI (td_cs p q r l0 l1 l2).length, a1, a2, a3, b4, b5, b6, b7)) : wpX_listCells post (f, a1, a2, a3, a4, a5, a6, a7) := by
  refine ⟨4, td_l7s (i := 0) (lo := p) (d := l0 - p) (cs := []) (by omega) k.1 (by rw [show p + (l0 - p) = l0 by omega]; exact k2.1) hp (by rw [List.length_nil]; omega) td_C0 (fun b4 b5 b6 h => ?_)⟩
  refine td_l7s (i := 1) (lo := q) (d := l1 - q) (by omega) k.2.1 (by rw [show q + (l1 - q) = l1 by omega]; exact k2.2.1) hq (by rw [td_rowL, List.length_nil]; omega) h (fun c4 c5 c6 h => ?_)
  refine td_l7s (i := 2) (lo := r) (d := l2 - r) (by omega) k.2.2 (by rw [show r + (l2 - r) = l2 by omega]; exact k2.2.2) hr (by rw [td_rowL, td_rowL, List.length_nil]; omega) h (fun d4 d5 d6 h => ?_)
  exact pk_le 3 3 (fun _ => td_l85 (fun b7 h7 => H d4 d5 d6 b7 h h7)) (fun z => absurd z (by omega))
/-! countFillings -/
def td_cf (p q r b0 b1 b2 l0 l1 l2 : Nat) : Nat := if (p ≤ l0 ∧ q ≤ l1 ∧ r ≤ l2) ∧ l0 + l1 + l2 = p + q + r + (b0 + b1 + b2) then td_sim (td_cs p q r l0 l1 l2) (td_g b0 b1 b2) 5000 0 [] 0 else 0
theorem td_cfB (p q r b0 b1 b2 l0 l1 l2 : Nat) : td_cf p q r b0 b1 b2 l0 l1 l2 ≤ 5000 := by
  unfold td_cf
  split
  · exact Nat.le_trans (td_simB 5000 0 [] 0) (by omega)
  · omega
theorem td_cf0 (h : l0 + l1 + l2 ≠ p + q + r + (b0 + b1 + b2)) : td_cf p q r b0 b1 b2 l0 l1 l2 = 0 := if_neg (fun c => h c.2)
theorem td_cf1 (hs : td_S p q r) (hb : td_S b0 b1 b2) (hf : p + q + r + (b0 + b1 + b2) ≤ 6) : td_cf p q r b0 b1 b2 (p + b0) (q + b1) (r + b2) = 1 := by
  have t := td_each (Q := fun p q r => td_al (fun b0 => td_al (fun b1 => td_al (fun b2 => !decide (td_S b0 b1 b2) || decide (p + q + r + (b0 + b1 + b2) ≤ 6 → td_cf p q r b0 b1 b2 (p + b0) (q + b1) (r + b2) = 1)) 7) 7) 7) (by decide +kernel) hs
  exact of_decide_eq_true (td_each (Q := fun b0 b1 b2 => decide (p + q + r + (b0 + b1 + b2) ≤ 6 → td_cf p q r b0 b1 b2 (p + b0) (q + b1) (r + b2) = 1)) t hb) hf
theorem td_lsum (h : l0 + l1 + l2 ≤ 6) : (l0 - p) + (l1 - q) + (l2 - r) ≤ 6 := by omega
theorem td_cfw {post : Int32 → St1 → Prop} (hs : td_S p q r) (k : td_K a1 p q r) (hb : td_S b0 b1 b2) (hl : td_S l0 l1 l2) (H : ∀ f c2 c3 c4 c5 c6 c7, post (nI (td_cf p q r b0 b1 b2 l0 l1 l2)) (f, a1, c2, c3, c4, c5, c6, c7)) :
    wpX_countFillings post (f, a1, a2, a3, a4, a5, a6, a7) (nI (100 * b0 + 10 * b1 + b2)) (nI (100 * l0 + 10 * l1 + l2)) := by
  unfold wpX_countFillings
  try dsimp only
  have sp := td_Sp hs
  have sq := td_Sq hs
  have sr := td_Sr hs
  have bp := td_Sp hb
  have bq := td_Sq hb
  have br := td_Sr hb
  have lp := td_Sp hl
  have lq := td_Sq hl
  have lr := td_Sr hl
  have hb3 := hb.2.2
  have hs3 := hs.2.2
  have hl3 := hl.2.2
  have hm : 100 * b0 + 10 * b1 + b2 < 2 ^ 31 := by omega
  have hm2 : 100 * l0 + 10 * l1 + l2 < 2 ^ 31 := by omega
  rw [td_d100 hm, td_m10 hm, td_r10 hm, td_n1 bq br, td_n2 bq br, td_n3 bq br, td_d100 hm2, td_m10 hm2, td_r10 hm2, td_n1 lq lr, td_n2 lq lr, td_n3 lq lr]
  refine ⟨by decide, nm_e ⟨by decide, by decide, nm_e ⟨by decide, nm_e ⟨by decide, nm_e ⟨by decide, by decide, nm_e ⟨by decide, nm_e ?_⟩⟩⟩⟩⟩⟩
  have kl : td_K (upd (upd (upd a2 0 (nI l0)) 1 (nI l1)) 2 (nI l2)) l0 l1 l2 := td_upd3 rfl rfl rfl
  have kb : td_K (upd (upd (upd a3 0 (nI b0)) 1 (nI b1)) 2 (nI b2)) b0 b1 b2 := td_upd3 rfl rfl rfl
  generalize upd (upd (upd a2 0 (nI l0)) 1 (nI l1)) 2 (nI l2) = A2 at kl ⊢
  generalize upd (upd (upd a3 0 (nI b0)) 1 (nI b1)) 2 (nI b2) = A3 at kb ⊢
  have hno : ¬ ((p ≤ l0 ∧ q ≤ l1 ∧ r ≤ l2) ∧ l0 + l1 + l2 = p + q + r + (b0 + b1 + b2)) → post 0 (f, a1, A2, A3, a4, a5, a6, a7) := by
    intro h
    have t := H f A2 A3 a4 a5 a6 a7
    unfold td_cf at t
    rw [if_neg h] at t
    exact t
  refine pk_lt l0 p (fun z => br_t rfl (hno (by omega))) (fun z0 => pk_lt l1 q (fun z => br_t rfl (hno (by omega))) (fun z1 => pk_lt l2 r (fun z => br_t rfl (hno (by omega))) (fun z2 => br_f (by decide) ?_) kl.2.2 k.2.2) kl.2.1 k.2.1) kl.1 k.1
  refine td_XszS hl (td_ks k (td_XszS hb ?_))
  rw [nI_add]
  refine pk_eq (l0 + l1 + l2) (p + q + r + (b0 + b1 + b2)) (fun e => ?_) (fun e => hno (fun c => e c.2))
  refine td_lc k kl sp sq sr z0 z1 z2 (td_lsum hl3) (fun c4 c5 c6 c7 hC h7 => ?_)
  have hc : (td_cs p q r l0 l1 l2).length ≤ 6 := by
    rw [td_csL]
    exact td_lsum hl3
  refine td_tn (B := td_g b0 b1 b2) hc hC.1 hC.2 h7 (fun j hj => ⟨td_Kg kb j hj, Nat.lt_of_lt_of_le (td_gB bp bq br j) (by decide)⟩) (fun c6 c7 => ?_)
  have t := H (nI (td_cs p q r l0 l1 l2).length) A2 A3 c4 c5 c6 c7
  unfold td_cf at t
  rw [if_pos ⟨⟨z0, z1, z2⟩, e⟩] at t
  exact t
end
end
section
section
variable {f x y : Int32} {a1 a2 a3 a4 a5 a6 a7 : Nat → Int32} {p q r l0 l1 l2 b0 b1 b2 : Nat}
def td_c (p q r b0 b1 b2 s : Nat) : Nat := if td_S (s / 100) (s / 10 % 10) (s % 10) then td_cf p q r b0 b1 b2 (s / 100) (s / 10 % 10) (s % 10) else 0
theorem td_c1 (hl : td_S l0 l1 l2) : td_c p q r b0 b1 b2 (100 * l0 + 10 * l1 + l2) = td_cf p q r b0 b1 b2 l0 l1 l2 := by
  unfold td_c
  rw [td_n1 (td_Sq hl) (td_Sr hl), td_n2 (td_Sq hl) (td_Sr hl), td_n3 (td_Sq hl) (td_Sr hl), if_pos hl]
theorem td_c0 {s : Nat} (hs : s < 2 ^ 31) (h : ¬ td_sh (nI s)) : td_c p q r b0 b1 b2 s = 0 := if_neg (fun c => h ((td_shm hs).mpr c))
theorem td_cB (s : Nat) : td_c p q r b0 b1 b2 s ≤ 5000 := by
  unfold td_c
  split
  · exact td_cfB _ _ _ _ _ _ _ _ _
  · omega
def td_pt (c : Nat → Nat) : Nat → Nat
  | 0 => 0
  | n + 1 => td_pt c n + c n
theorem td_ptB {c : Nat → Nat} (h : ∀ s, c s ≤ 5000) : ∀ n, td_pt c n ≤ 5000 * n := by
  intro n
  induction n with
  | zero => exact Nat.le_refl 0
  | succ n ih =>
    have t := h n
    unfold td_pt
    omega
theorem td_ptG {c : Nat → Nat} {s : Nat} : ∀ n, s < n → c s ≤ td_pt c n := by
  intro n
  induction n with
  | zero => intro h; omega
  | succ n ih =>
    intro h
    unfold td_pt
    by_cases e : s = n
    · rw [e]
      omega
    · have t := ih (by omega)
      omega
theorem td_p27 {post : Int32 → St1 → Prop} (hs : td_S p q r) (k : td_K a1 p q r) (hb : td_S b0 b1 b2) (H : ∀ f c2 c3 c4 c5 c6 c7, post (nI (td_pt (td_c p q r b0 b1 b2) 601)) (f, a1, c2, c3, c4, c5, c6, c7)) :
    ∀ (d s : Nat) (f : Int32) (a2 a3 a4 a5 a6 a7 : Nat → Int32), s + d = 601 → wX_parts_27 post (nI (100 * b0 + 10 * b1 + b2)) (d + 1) (nI (td_pt (td_c p q r b0 b1 b2) s)) (nI s) f a1 a2 a3 a4 a5 a6 a7 := by
  intro d
  induction d with
  | zero =>
    intro s f a2 a3 a4 a5 a6 a7 e
    have e' : s = 601 := by omega
    subst e'
    exact pk_lt 600 601 (fun _ => H f a2 a3 a4 a5 a6 a7) (fun z => absurd z (by omega))
  | succ d ih =>
    intro s f a2 a3 a4 a5 a6 a7 e
    refine pk_lt 600 s (fun z => absurd z (by omega)) (fun _ => td_Xsh (fun t => br_f (by decide) ?_) (fun t => br_t rfl (nm_r (nI_1 s) ?_)))
    · obtain ⟨l0, l1, l2, hl, e2⟩ := t
      have hl3 := hl.2.2
      have e3 := (nI_eq (by omega) (by omega)).mp e2
      subst e3
      refine td_cfw hs k hb hl (fun f c2 c3 c4 c5 c6 c7 => nm_r (nI_add _ _) (nm_r (nI_1 _) ?_))
      have t := ih (100 * l0 + 10 * l1 + l2 + 1) f c2 c3 c4 c5 c6 c7 (by omega)
      rw [show td_pt (td_c p q r b0 b1 b2) (100 * l0 + 10 * l1 + l2 + 1) = td_pt (td_c p q r b0 b1 b2) (100 * l0 + 10 * l1 + l2) + td_c p q r b0 b1 b2 (100 * l0 + 10 * l1 + l2) from rfl, td_c1 hl] at t
      exact t
    · have t2 := ih (s + 1) f a2 a3 a4 a5 a6 a7 (by omega)
      rw [show td_pt (td_c p q r b0 b1 b2) (s + 1) = td_pt (td_c p q r b0 b1 b2) s + td_c p q r b0 b1 b2 s from rfl, td_c0 (by omega) t, Nat.add_zero] at t2
      exact t2
theorem td_pa {post : Int32 → St1 → Prop} (hs : td_S p q r) (k : td_K a1 p q r) (h1 : ∀ b0 b1 b2, td_S b0 b1 b2 → p + q + r + (b0 + b1 + b2) ≤ 6 → x = nI (100 * b0 + 10 * b1 + b2) → ∀ f c2 c3 c4 c5 c6 c7, post (nI (td_pt (td_c p q r b0 b1 b2) 601)) (f, a1, c2, c3, c4, c5, c6, c7))
    (h0 : ¬ td_fit p q r x → post (-1) (f, a1, a2, a3, a4, a5, a6, a7)) : wpX_parts post (f, a1, a2, a3, a4, a5, a6, a7) x := by
  unfold wpX_parts
  try dsimp only
  refine td_Xsh (fun t => br_f (by decide) ?_) (fun t => br_t rfl (h0 (td_nofit1 t)))
  obtain ⟨b0, b1, b2, hb, rfl⟩ := t
  have hb1 := hb.2.2
  have hs1 := hs.2.2
  refine td_ks k (td_XszS hb ?_)
  rw [nI_add]
  exact pk_le (p + q + r + (b0 + b1 + b2)) 6 (fun z => ⟨602, td_p27 hs k hb (h1 b0 b1 b2 hb z rfl) 601 0 f a2 a3 a4 a5 a6 a7 (by omega)⟩) (fun z => h0 (td_nofit2 hb z))
theorem td_ti {post : Int32 → St1 → Prop} (hs : td_S p q r) (k : td_K a1 p q r) (h1 : ∀ b0 b1 b2 l0 l1 l2, td_S b0 b1 b2 → p + q + r + (b0 + b1 + b2) ≤ 6 → x = nI (100 * b0 + 10 * b1 + b2) → td_S l0 l1 l2 → y = nI (100 * l0 + 10 * l1 + l2) → ∀ f c2 c3 c4 c5 c6 c7, post (nI (td_cf p q r b0 b1 b2 l0 l1 l2)) (f, a1, c2, c3, c4, c5, c6, c7))
    (h0 : (¬ td_fit p q r x ∨ ¬ td_sh y) → post (-1) (f, a1, a2, a3, a4, a5, a6, a7)) : wpX_times post (f, a1, a2, a3, a4, a5, a6, a7) x y := by
  unfold wpX_times
  try dsimp only
  refine td_Xsh (fun t => br_f (by decide) (td_Xsh (fun t2 => br_f (by decide) ?_) (fun t2 => br_t rfl (h0 (Or.inr t2))))) (fun t => br_t rfl (h0 (Or.inl (td_nofit1 t))))
  obtain ⟨b0, b1, b2, hb, rfl⟩ := t
  obtain ⟨l0, l1, l2, hl, rfl⟩ := t2
  have hb1 := hb.2.2
  have hs1 := hs.2.2
  refine td_ks k (td_XszS hb ?_)
  rw [nI_add]
  exact pk_le (p + q + r + (b0 + b1 + b2)) 6 (fun z => td_cfw hs k hb hl (h1 b0 b1 b2 l0 l1 l2 hb z rfl hl rfl)) (fun z => h0 (Or.inl (td_nofit2 hb z)))
theorem td_shB (h : td_S l0 l1 l2) : 100 * l0 + 10 * l1 + l2 < 601 := by
  obtain ⟨h1, h2, h3⟩ := h
  omega
end
end
section
section
variable {f x : Int32} {a1 a2 a3 a4 a5 a6 a7 : Nat → Int32} {p q r l0 l1 l2 b0 b1 b2 : Nat}
theorem td_paF {post : Int32 → St1 → Prop} (hs : td_S p q r) (k : td_K a1 p q r) (hb : td_S b0 b1 b2) (hf : p + q + r + (b0 + b1 + b2) ≤ 6) (H : ∀ f c2 c3 c4 c5 c6 c7, post (nI (td_pt (td_c p q r b0 b1 b2) 601)) (f, a1, c2, c3, c4, c5, c6, c7)) : wpX_parts post (f, a1, a2, a3, a4, a5, a6, a7) (nI (100 * b0 + 10 * b1 + b2)) := by
  refine td_pa hs k (fun c0 c1 c2 hc _ e => ?_) (fun t => absurd (show td_fit p q r (nI (100 * b0 + 10 * b1 + b2)) from ⟨b0, b1, b2, hb, hf, rfl⟩) t)
  obtain ⟨rfl, rfl, rfl⟩ := td_inj hb hc e
  exact H
theorem td_grF {post : Int32 → Prop} (hs : td_S p q r) (k : td_K a1 p q r) (hb : td_S b0 b1 b2) (hf : p + q + r + (b0 + b1 + b2) ≤ 6) (H : post (nI (100 * (p + b0) + 10 * (q + b1) + (r + b2)))) : wpX_greatest post (f, a1, a2, a3, a4, a5, a6, a7) (nI (100 * b0 + 10 * b1 + b2)) := by
  refine td_gr hs k (fun c0 c1 c2 hc _ e => ?_) (fun t => absurd (show td_fit p q r (nI (100 * b0 + 10 * b1 + b2)) from ⟨b0, b1, b2, hb, hf, rfl⟩) t)
  obtain ⟨rfl, rfl, rfl⟩ := td_inj hb hc e
  exact H
theorem td_tiF {post : Int32 → St1 → Prop} (hs : td_S p q r) (k : td_K a1 p q r) (hb : td_S b0 b1 b2) (hf : p + q + r + (b0 + b1 + b2) ≤ 6) (hl : td_S l0 l1 l2) (H : ∀ f c2 c3 c4 c5 c6 c7, post (nI (td_cf p q r b0 b1 b2 l0 l1 l2)) (f, a1, c2, c3, c4, c5, c6, c7)) : wpX_times post (f, a1, a2, a3, a4, a5, a6, a7) (nI (100 * b0 + 10 * b1 + b2)) (nI (100 * l0 + 10 * l1 + l2)) := by
  refine td_ti hs k (fun c0 c1 c2 m0 m1 m2 hc _ e hm e2 => ?_) (fun t => t.elim (fun t => absurd (show td_fit p q r (nI (100 * b0 + 10 * b1 + b2)) from ⟨b0, b1, b2, hb, hf, rfl⟩) t) (fun t => absurd (td_shS hl) t))
  obtain ⟨rfl, rfl, rfl⟩ := td_inj hb hc e
  obtain ⟨rfl, rfl, rfl⟩ := td_inj hl hm e2
  exact H
theorem td_tiN {post : Int32 → St1 → Prop} (hs : td_S p q r) (k : td_K a1 p q r) {y : Int32} (h : ¬ td_fit p q r x ∨ ¬ td_sh y) (H : post (-1) (f, a1, a2, a3, a4, a5, a6, a7)) : wpX_times post (f, a1, a2, a3, a4, a5, a6, a7) x y :=
  td_ti hs k (fun c0 c1 c2 m0 m1 m2 hc hf e hm e2 => h.elim (fun t => absurd ⟨c0, c1, c2, hc, hf, e⟩ t) (fun t => absurd ⟨m0, m1, m2, hm, e2⟩ t)) (fun _ => H)
theorem td_nm1 {n : Nat} (h : n < 2 ^ 31) : ¬ nI n = -1 := by
  intro e
  refine nI_pos h ?_
  rw [e]
  decide
theorem td_m1le {n : Nat} (h : n < 2 ^ 31) : (-1 : Int32) ≤ nI n := by
  rw [Int32.le_iff_toInt_le, nI_toInt h, show (-1 : Int32).toInt = -1 by decide]
  omega
theorem td_ptS : td_pt (td_c p q r b0 b1 b2) 601 < 2 ^ 31 := Nat.lt_of_le_of_lt (td_ptB td_cB 601) (by decide)
theorem td_ptC (hl : td_S l0 l1 l2) : td_cf p q r b0 b1 b2 l0 l1 l2 ≤ td_pt (td_c p q r b0 b1 b2) 601 := by
  have t := td_ptG (c := td_c p q r b0 b1 b2) 601 (td_shB hl)
  rw [td_c1 hl] at t
  exact t
theorem td_top (hs : td_S p q r) (hb : td_S b0 b1 b2) (hf : p + q + r + (b0 + b1 + b2) ≤ 6) : td_S (p + b0) (q + b1) (r + b2) := ⟨by have h1 := hs.1; have h2 := hb.1; omega, by have h1 := hs.2.1; have h2 := hb.2.1; omega, by omega⟩
theorem td_top1 (hs : td_S p q r) (hb : td_S b0 b1 b2) (hf : p + q + r + (b0 + b1 + b2) ≤ 6) : td_cf p q r b0 b1 b2 (p + b0) (q + b1) (r + b2) = 1 :=
  td_cf1 hs hb hf
theorem td_pt1 (hs : td_S p q r) (hb : td_S b0 b1 b2) (hf : p + q + r + (b0 + b1 + b2) ≤ 6) : 1 ≤ td_pt (td_c p q r b0 b1 b2) 601 := by
  have t := td_ptC (p := p) (q := q) (r := r) (b0 := b0) (b1 := b1) (b2 := b2) (td_top hs hb hf)
  rw [td_top1 hs hb hf] at t
  exact t
end
section
variable {post : Int32 → Prop} {L : Nat} {xs : Nat → Int32} {J12 : Int32 → Int32 → Int32 → (Nat → Int32) → (Nat → Int32) → (Nat → Int32) → (Nat → Int32) → (Nat → Int32) → (Nat → Int32) → (Nat → Int32) → Prop} {f x4 x5 x6 : Int32} {a1 a2 a3 a4 a5 a6 a7 : Nat → Int32} {p q r i kc ks : Nat}
/-- the law's loop goes on from any state that keeps a shape -/
def td_J (J12 : Int32 → Int32 → Int32 → (Nat → Int32) → (Nat → Int32) → (Nat → Int32) → (Nat → Int32) → (Nat → Int32) → (Nat → Int32) → (Nat → Int32) → Prop) (i : Nat) : Prop :=
  ∀ (p q r : Nat) (f : Int32) (a1 a2 a3 a4 a5 a6 a7 : Nat → Int32), td_S p q r → td_K a1 p q r → J12 (nI (100 * p + 10 * q + r)) (nI (i + 3)) f a1 a2 a3 a4 a5 a6 a7
theorem td_515 (hs : td_S p q r) (k : td_K a1 p q r) (hJ : td_J J12 i) : wL_law_515 post L xs J12 (nI (100 * p + 10 * q + r)) (nI i) (nI (p + q + r)) (nI p) kc ks f a1 a2 a3 a4 a5 a6 a7 := by
  unfold wL_law_515
  have hs3 := hs.2.2
  have go := hJ p q r f a1 a2 a3 a4 a5 a6 a7 hs k
  refine td_tu hs k (fun z a b c hS hsum => ?_) (fun z => ?_)
  · have hS3 := hS.2.2
    refine br_f (td_nm1 (by omega)) (pk_le p 3 (fun _ => br_t rfl (br_f (nI_pos (by omega)) (td_LszS hS ?_))) (fun y => absurd y (by omega)))
    rw [hsum]
    exact br_t rfl (td_Lsh (fun _ => br_f (by decide) (nm_r (nI_add i 3) go)) (fun t => absurd (td_shS hS) t))
  · exact br_t rfl (pk_le p 3 (fun y => absurd y (by omega)) (fun _ => br_t rfl (br_t (by decide) (nm_r (nI_add i 3) go))))
theorem td_467n {x15 x16 : Int32} (hs : td_S p q r) (k : td_K a1 p q r) (hJ : td_J J12 i) : wL_law_467 post L xs J12 (nI (100 * p + 10 * q + r)) (nI i) x4 x5 (nI (p + q + r)) (nI p) 0 x15 x16 kc ks f a1 a2 a3 a4 a5 a6 a7 := by
  unfold wL_law_467
  exact br_t rfl (td_515 hs k hJ)
theorem td_467y {b0 b1 b2 : Nat} {x16 : Int32} (hs : td_S p q r) (k : td_K a1 p q r) (hJ : td_J J12 i) (hb : td_S b0 b1 b2) (hf : p + q + r + (b0 + b1 + b2) ≤ 6)
    (hx : ∀ l0 l1 l2, td_S l0 l1 l2 → x4 = nI (100 * l0 + 10 * l1 + l2) → l0 + l1 + l2 ≠ p + q + r + (b0 + b1 + b2) → x16 = 0) :
    wL_law_467 post L xs J12 (nI (100 * p + 10 * q + r)) (nI i) x4 (nI (100 * b0 + 10 * b1 + b2)) (nI (p + q + r)) (nI p) 1 (nI (100 * (p + b0) + 10 * (q + b1) + (r + b2))) x16 kc ks f a1 a2 a3 a4 a5 a6 a7 := by
  unfold wL_law_467
  refine br_f (by decide) (td_tiF hs k hb hf (td_top hs hb hf) (fun f c2 c3 c4 c5 c6 c7 => ?_))
  rw [td_top1 hs hb hf]
  refine br_t rfl (td_Lsh (fun t => br_f (by decide) ?_) (fun _ => br_t rfl (td_515 hs k hJ)))
  obtain ⟨l0, l1, l2, hl, e⟩ := t
  have hl3 := hl.2.2
  have hx' := hx l0 l1 l2 hl e
  rw [e]
  refine td_LszS hl (td_LszS hb ?_)
  rw [nI_add]
  exact pk_eq (l0 + l1 + l2) (p + q + r + (b0 + b1 + b2)) (fun _ => td_515 hs k hJ) (fun z => br_t (hx' z) (td_515 hs k hJ))
theorem td_370n (hs : td_S p q r) (k : td_K a1 p q r) (hJ : td_J J12 i) (hn : ¬ td_fit p q r x5) : wL_law_370 post L xs J12 (nI (100 * p + 10 * q + r)) (nI i) x4 x5 (nI (p + q + r)) (nI p) 0 kc ks f a1 a2 a3 a4 a5 a6 a7 := by
  unfold wL_law_370
  refine td_pa hs k (fun c0 c1 c2 hc hf e => absurd ⟨c0, c1, c2, hc, hf, e⟩ hn) (fun _ => ?_)
  refine td_gr hs k (fun c0 c1 c2 hc hf e => absurd ⟨c0, c1, c2, hc, hf, e⟩ hn) (fun _ => ?_)
  exact td_tiN hs k (Or.inl hn) (br_t rfl (br_t rfl (br_t rfl (br_t rfl (td_467n hs k hJ)))))
theorem td_370y {b0 b1 b2 : Nat} (hs : td_S p q r) (k : td_K a1 p q r) (hJ : td_J J12 i) (hb : td_S b0 b1 b2) (hf : p + q + r + (b0 + b1 + b2) ≤ 6) : wL_law_370 post L xs J12 (nI (100 * p + 10 * q + r)) (nI i) x4 (nI (100 * b0 + 10 * b1 + b2)) (nI (p + q + r)) (nI p) 1 kc ks f a1 a2 a3 a4 a5 a6 a7 := by
  unfold wL_law_370
  have g1 : ¬ nI (td_pt (td_c p q r b0 b1 b2) 601) < 1 := nI_nlt (b := 1) (td_pt1 hs hb hf) td_ptS
  have g2 : nI (100 * (p + b0) + 10 * (q + b1) + (r + b2)) = nI (100 * p + 10 * q + r) + nI (100 * b0 + 10 * b1 + b2) := by
    rw [nI_add]
    exact congrArg nI (by omega)
  refine td_paF hs k hb hf (fun f c2 c3 c4 c5 c6 c7 => td_grF hs k hb hf ?_)
  by_cases hx : td_sh x4
  · obtain ⟨l0, l1, l2, hl, rfl⟩ := hx
    refine td_tiF hs k hb hf hl (fun f c2 c3 c4 c5 c6 c7 => br_f (by decide) (br_f g1 (br_t g2 (td_Lsh (fun _ => br_f (by decide) ?_) (fun t => absurd (td_shS hl) t)))))
    refine br_t rfl (br_t (nI_le (td_ptC hl) td_ptS) (td_467y hs k hJ hb hf (fun m0 m1 m2 hm e hne => ?_)))
    obtain ⟨rfl, rfl, rfl⟩ := td_inj hl hm e
    rw [td_cf0 hne]
    rfl
  · refine td_tiN hs k (Or.inr hx) (br_f (by decide) (br_f g1 (br_t g2 (td_Lsh (fun t => absurd t hx) (fun _ => br_t rfl ?_)))))
    exact br_t rfl (br_t (td_m1le td_ptS) (td_467y hs k hJ hb hf (fun m0 m1 m2 hm e _ => absurd ⟨m0, m1, m2, hm, e⟩ hx)))
theorem td_344 (hs : td_S p q r) (k : td_K a1 p q r) (hJ : td_J J12 i) : wL_law_344 post L xs J12 (nI (100 * p + 10 * q + r)) (nI i) x4 x5 (nI (p + q + r)) (nI p) kc ks f a1 a2 a3 a4 a5 a6 a7 := by
  unfold wL_law_344
  refine td_Lsh (fun t => br_f (by decide) ?_) (fun t => br_t rfl (td_370n hs k hJ (td_nofit1 t)))
  obtain ⟨b0, b1, b2, hb, rfl⟩ := t
  have hb3 := hb.2.2
  have hs3 := hs.2.2
  refine td_LszS hb ?_
  rw [nI_add]
  exact pk_lt 6 (p + q + r + (b0 + b1 + b2)) (fun z => td_370n hs k hJ (td_nofit2 hb z)) (fun z => td_370y hs k hJ hb z)
theorem td_170 (hs : td_S p q r) (k : td_K a1 p q r) (hJ : td_J J12 i) : wL_law_170 post L xs J12 (nI (100 * p + 10 * q + r)) (nI i) x4 x5 x6 kc ks f a1 a2 a3 a4 a5 a6 a7 := by
  unfold wL_law_170
  have sp := td_Sp hs
  have sq := td_Sq hs
  have sr := td_Sr hs
  obtain ⟨s1, s2, s3⟩ := hs
  have hs : td_S p q r := ⟨s1, s2, s3⟩
  obtain ⟨F1, F2⟩ := td_Fle hs
  have W1 := td_W1 hs
  have hm : 100 * p + 10 * q + r < 2 ^ 31 := by omega
  rw [td_d100 hm, td_m10 hm, td_r10 hm, td_n1 sq sr, td_n2 sq sr, td_n3 sq sr]
  refine td_LszS hs ⟨by decide, nm_e ⟨by decide, by decide, nm_e ⟨by decide, nm_e (td_fl hs k ⟨by decide, br_t (td_Fe hs).symm (td_or hs k (fun v v1 v2 => br_f (nI_nlt (b := 1) v1 v2) (td_wcY hs k (by omega) (by omega) (by omega) ?_)))⟩)⟩⟩⟩
  rw [W1]
  refine br_t rfl ?_
  by_cases hx : td_ct x6
  · have hx0 := hx
    obtain ⟨c1, c2, c3, ⟨h1, h2, h3⟩, rfl⟩ := hx
    have hW := td_Wle p q r c1 c2 c3
    refine td_wcY hs k h1 h2 h3 (td_ctI (fun _ => br_f (by decide) (br_f (nI_pos (by omega)) (td_fl hs k (br_f (nI_nlt (by omega) (by omega)) (td_LszD (by omega) (by omega) (by omega) (pk_eq (c1 + c2 + c3) (p + q + r) (fun _ => td_344 hs k hJ) (fun z => br_t ?_ (td_344 hs k hJ)))))))) (fun t => absurd hx0 t))
    unfold td_W
    rw [if_neg z]
    rfl
  · exact td_wcN hx (td_ctI (fun t => absurd t hx) (fun _ => br_t rfl (br_t rfl (td_344 hs k hJ))))
theorem td_110 (hi : i + 3 ≤ L) (hL : L ≤ 260) (hs : td_S p q r) (k : td_K a1 p q r) (hJ : td_J J12 i) : wL_law_110 post L xs J12 (nI (100 * p + 10 * q + r)) (nI i) x4 x5 kc ks f a1 a2 a3 a4 a5 a6 a7 := by
  unfold wL_law_110
  refine ⟨pk_in (i + 2) L (by omega) (nI_add i 2), nm_e ⟨pk_in i L (by omega), br_c (fun _ => ?_) (fun _ => td_170 hs k hJ)⟩⟩
  refine td_kp (fun b0 b1 b2 a hb e ka => ?_) (fun hn => ?_)
  · subst e
    exact td_Lsh (fun _ => br_f (by decide) (td_LszS hb (br_t rfl (td_Lsh (fun _ => br_f (by decide) (td_170 hb ka hJ)) (fun t => absurd (td_shS hb) t))))) (fun t => absurd (td_shS hb) t)
  · exact td_Lsh (fun t => absurd t hn) (fun _ => br_t rfl (br_t rfl (td_Lsh (fun t => absurd t hn) (fun _ => br_t rfl (td_170 hs k hJ)))))
theorem td_69 (hi : i + 3 ≤ L) (hL : L ≤ 260) (hs : td_S p q r) (k : td_K a1 p q r) (hJ : td_J J12 i) : wL_law_69 post L xs J12 (nI (100 * p + 10 * q + r)) (nI i) x4 kc ks f a1 a2 a3 a4 a5 a6 a7 := by
  unfold wL_law_69
  have h2 : vp_in (nI i + 2) L := pk_in (i + 2) L (by omega) (nI_add i 2)
  exact ⟨pk_in i L (by omega), br_c (fun _ => ⟨h2, td_110 hi hL hs k hJ⟩) (fun _ => ⟨h2, h2, td_110 hi hL hs k hJ⟩)⟩
theorem td_12 (hL : L ≤ 260) : ∀ (n i p q r : Nat) (f : Int32) (a1 a2 a3 a4 a5 a6 a7 : Nat → Int32), i ≤ L → L - i < n → td_S p q r → td_K a1 p q r → wL_law_12 (fun r => r = 1) L xs kc ks n (nI (100 * p + 10 * q + r)) (nI i) f a1 a2 a3 a4 a5 a6 a7 := by
  intro n
  induction n with
  | zero => intro i p q r f a1 a2 a3 a4 a5 a6 a7 h1 h2; omega
  | succ n ih =>
    intro i p q r f a1 a2 a3 a4 a5 a6 a7 h1 h2 hs k
    refine pk_lt L (i + 3) (fun _ => rfl) (fun z => ?_) rfl (nI_add i 3)
    have hJ : td_J (wL_law_12 (fun r => r = 1) L xs kc ks n) i := fun p q r f a1 a2 a3 a4 a5 a6 a7 hs k => ih (i + 3) p q r f a1 a2 a3 a4 a5 a6 a7 z (by omega) hs k
    have h1 : vp_in (nI i + 1) L := pk_in (i + 1) L (by omega) (nI_1 i)
    exact ⟨pk_in i L (by omega), br_c (fun _ => ⟨h1, td_69 z hL hs k hJ⟩) (fun _ => ⟨h1, h1, h1, td_69 z hL hs k hJ⟩)⟩
end
end
section
theorem i_vc (xs : Nat → Int32) (L : Nat) (hL : L ≤ 260) : wpL_law (fun r => r = 1) L xs := by
  refine ⟨7, 31, by omega, by omega, ?_⟩
  unfold wpX_init
  refine ⟨by omega, by omega, by omega, by omega, by omega, by omega, by omega, by omega, by omega, by omega, by omega, by omega, by omega, by omega, ?_⟩
  exact ⟨L + 1, td_12 hL (L + 1) 0 0 0 0 0 (fun _ => 0) (fun _ => 0) (fun _ => 0) (fun _ => 0) (fun _ => 0) (fun _ => 0) (fun _ => 0) (by omega) (by omega) ⟨by omega, by omega, by omega⟩ ⟨rfl, rfl, rfl⟩⟩
end
