section
/-- how many processes are no holders -/
def sy_al (P c : Nat) : Nat := if c / 25 % 4 = 3 then P else P - 1
/-- how many of the others are in place i -/
def sy_ct (P c i : Nat) : Nat := if i = 0 then sy_al P c - c / 5 % 5 - c % 5 else if i = 1 then c / 5 % 5 else c % 5
/-- a class that stands for some state -/
def sy_cv (P c : Nat) : Prop := c < 300 ∧ c / 5 % 5 + c % 5 ≤ sy_al P c
def sy_nu (s h x y : Nat) : Nat := ((s * 4 + h) * 5 + x) * 5 + y
/-- rule r's fields are in range: 0 from, 1 to, 2 sharedIs, 3 sharedBecomes, 4 crowd, 5 most, 6 token -/
def sy_rk (ρ : Nat → Nat → Nat) (r : Nat) : Prop := ρ 0 r ≤ 2 ∧ ρ 1 r ≤ 2 ∧ ρ 2 r ≤ 3 ∧ ρ 3 r ≤ 3 ∧ ρ 4 r ≤ 2 ∧ ρ 5 r ≤ 3 ∧ ρ 6 r ≤ 4
def sy_e0 (ρ : Nat → Nat → Nat) (P c r b : Nat) : Prop := (b = 1 → c / 25 % 4 = ρ 0 r) ∧ (b = 0 → sy_ct P c (ρ 0 r) ≠ 0)
def sy_e1 (ρ : Nat → Nat → Nat) (c r : Nat) : Prop := ρ 2 r = 3 ∨ ρ 2 r = c / 100
def sy_e2 (ρ : Nat → Nat → Nat) (P c r : Nat) : Prop := sy_ct P c (ρ 4 r) + (if c / 25 % 4 = ρ 4 r then 1 else 0) ≤ ρ 5 r + (if ρ 0 r = ρ 4 r then 1 else 0)
def sy_e3 (ρ : Nat → Nat → Nat) (c r b : Nat) : Prop := (ρ 6 r = 1 → c / 25 % 4 = 3) ∧ (ρ 6 r = 2 → b = 1) ∧ (ρ 6 r = 3 → b = 1) ∧ (ρ 6 r = 4 → b = 0)
def sy_en (ρ : Nat → Nat → Nat) (P c r b : Nat) : Prop := sy_e0 ρ P c r b ∧ sy_e1 ρ c r ∧ sy_e2 ρ P c r ∧ sy_e3 ρ c r b
def sy_nh (ρ : Nat → Nat → Nat) (c r b : Nat) : Nat := if b = 1 then (if ρ 6 r = 2 then 3 else ρ 1 r) else (if ρ 6 r = 1 then ρ 1 r else c / 25 % 4)
def sy_jo (ρ : Nat → Nat → Nat) (r b : Nat) : Nat := if b = 1 then (if ρ 6 r = 2 then 1 else 0) else (if ρ 6 r = 1 then 0 else 1)
def sy_ni (ρ : Nat → Nat → Nat) (x r b i : Nat) : Nat := x - (if b = 1 then 0 else if ρ 0 r = i then 1 else 0) + (if sy_jo ρ r b = 0 then 0 else if ρ 1 r = i then 1 else 0)
def sy_ns (ρ : Nat → Nat → Nat) (c r : Nat) : Nat := if ρ 3 r = 3 then c / 100 else ρ 3 r
def sy_af (ρ : Nat → Nat → Nat) (c r b : Nat) : Nat := sy_nu (sy_ns ρ c r) (sy_nh ρ c r b) (sy_ni ρ (c / 5 % 5) r b 1) (sy_ni ρ (c % 5) r b 2)
theorem sy_nu_d {s h x y : Nat} (hs : s ≤ 2) (hh : h ≤ 3) (hx : x ≤ 4) (hy : y ≤ 4) : sy_nu s h x y / 100 = s ∧ sy_nu s h x y / 25 % 4 = h ∧ sy_nu s h x y / 5 % 5 = x ∧ sy_nu s h x y % 5 = y ∧ sy_nu s h x y < 300 := by
  unfold sy_nu
  omega
theorem sy_nu_e (c : Nat) (_h : c < 300) : c = sy_nu (c / 100) (c / 25 % 4) (c / 5 % 5) (c % 5) := by
  unfold sy_nu
  omega
/-- what taking an enabled rule makes -/
theorem sy_af_d {ρ : Nat → Nat → Nat} {P c r b : Nat} (hP1 : 1 ≤ P) (hP : P ≤ 4) (hb : b ≤ 1) (hr : sy_rk ρ r) (hc : sy_cv P c) (he : sy_en ρ P c r b) :
    sy_ns ρ c r ≤ 2 ∧ sy_nh ρ c r b ≤ 3 ∧ sy_ni ρ (c / 5 % 5) r b 1 + sy_ni ρ (c % 5) r b 2 ≤ (if sy_nh ρ c r b = 3 then P else P - 1) ∧ (b = 1 ∨ (ρ 0 r = 1 → 1 ≤ c / 5 % 5) ∧ (ρ 0 r = 2 → 1 ≤ c % 5)) := by
  obtain ⟨h0, h1, h2, h3, h4, h5, h6⟩ := hr
  obtain ⟨hc1, hc2⟩ := hc
  obtain ⟨⟨e0, e0'⟩, e1, e2, e3, e4, e5, e6⟩ := he
  clear e2 e1
  unfold sy_ns sy_nh sy_ni sy_jo
  unfold sy_al at hc2
  unfold sy_ct sy_al at e0'
  refine ⟨by split <;> omega, by split <;> split <;> omega, ?_, ?_⟩
  · have hb' : b = 0 ∨ b = 1 := by omega
    rcases hb' with rfl | rfl
    · have e0'' := e0' rfl
      have : ρ 0 r = 0 ∨ ρ 0 r = 1 ∨ ρ 0 r = 2 := by omega
      by_cases t1 : ρ 6 r = 1
      · have e3' := e3 t1
        rcases this with t | t | t <;> simp [t, t1, e3'] at e0'' hc2 ⊢ <;> split <;> omega
      · by_cases t2 : c / 25 % 4 = 3
        · rcases this with t | t | t <;> simp [t, t1, t2] at e0'' hc2 ⊢ <;> split <;> split <;> omega
        · rcases this with t | t | t <;> simp [t, t1, t2] at e0'' hc2 ⊢ <;> split <;> split <;> omega
    · have e0'' := e0 rfl
      have g : ¬ c / 25 % 4 = 3 := by omega
      by_cases t1 : ρ 6 r = 2
      · simp [t1, g] at hc2 ⊢
        split <;> split <;> omega
      · have g1 : ¬ ρ 1 r = 3 := by omega
        simp [t1, g, g1] at hc2 ⊢
        omega
  · have hb' : b = 0 ∨ b = 1 := by omega
    rcases hb' with rfl | rfl
    · right
      have e0'' := e0' rfl
      constructor
      · intro t
        simp [t] at e0''
        omega
      · intro t
        simp [t] at e0''
        omega
    · left; rfl
theorem sy_af_v {ρ : Nat → Nat → Nat} {P c r b : Nat} (hP1 : 1 ≤ P) (hP : P ≤ 4) (hb : b ≤ 1) (hr : sy_rk ρ r) (hc : sy_cv P c) (he : sy_en ρ P c r b) :
    sy_cv P (sy_af ρ c r b) ∧ sy_af ρ c r b / 100 = sy_ns ρ c r ∧ sy_af ρ c r b / 25 % 4 = sy_nh ρ c r b ∧ sy_af ρ c r b / 5 % 5 = sy_ni ρ (c / 5 % 5) r b 1 ∧ sy_af ρ c r b % 5 = sy_ni ρ (c % 5) r b 2 := by
  obtain ⟨h1, h2, h3, _⟩ := sy_af_d hP1 hP hb hr hc he
  have h4 : sy_ni ρ (c / 5 % 5) r b 1 + sy_ni ρ (c % 5) r b 2 ≤ 4 := by
    split at h3 <;> omega
  obtain ⟨d1, d2, d3, d4, d5⟩ := sy_nu_d h1 h2 (show sy_ni ρ (c / 5 % 5) r b 1 ≤ 4 by omega) (show sy_ni ρ (c % 5) r b 2 ≤ 4 by omega)
  refine ⟨⟨d5, ?_⟩, d1, d2, d3, d4⟩
  unfold sy_al
  unfold sy_af
  rw [d2, d3, d4]
  exact h3
/-- the concrete states -/
def sy_pl (code p : Nat) : Nat := code / 3 ^ p % 3
def sy_tp (P code : Nat) : Nat := code / (3 * 3 ^ P)
def sy_sd (P code : Nat) : Nat := code / 3 ^ P % 3
def sy_lm (P : Nat) : Nat := 3 * 3 ^ P * (P + 1)
def sy_cc (code top i : Nat) : Nat → Nat
  | 0 => 0
  | p + 1 => sy_cc code top i p + (if p ≠ top ∧ sy_pl code p = i then 1 else 0)
def sy_hd (code top : Nat) (p : Nat) : Nat := if top < p then sy_pl code top else 3
def sy_cl (P code : Nat) : Nat := sy_nu (sy_sd P code) (sy_hd code (sy_tp P code) P) (sy_cc code (sy_tp P code) 1 P) (sy_cc code (sy_tp P code) 2 P)
theorem sy_pl_2 (code p : Nat) : sy_pl code p ≤ 2 := by
  unfold sy_pl
  omega
theorem sy_cc_sum (code top : Nat) : ∀ p, sy_cc code top 0 p + sy_cc code top 1 p + sy_cc code top 2 p = if top < p then p - 1 else p := by
  intro p
  induction p with
  | zero => rfl
  | succ p ih =>
    unfold sy_cc
    have h := sy_pl_2 code p
    have h' : sy_pl code p = 0 ∨ sy_pl code p = 1 ∨ sy_pl code p = 2 := by omega
    by_cases e : p = top
    · subst e
      simp at ih ⊢
      omega
    · rcases h' with t | t | t <;> simp [t, e] <;> split at ih <;> split <;> omega
theorem sy_cl_d {P code : Nat} (hP : 1 ≤ P) (hP4 : P ≤ 4) :
    sy_cv P (sy_cl P code) ∧ sy_cl P code / 100 = sy_sd P code ∧ sy_cl P code / 25 % 4 = sy_hd code (sy_tp P code) P ∧ (∀ i, i < 3 → sy_ct P (sy_cl P code) i = sy_cc code (sy_tp P code) i P) := by
  have hs := sy_cc_sum code (sy_tp P code) P
  have h1 : sy_sd P code ≤ 2 := by
    unfold sy_sd
    omega
  have h2 : sy_hd code (sy_tp P code) P ≤ 3 := by
    unfold sy_hd
    have := sy_pl_2 code (sy_tp P code)
    split <;> omega
  have h3 : sy_hd code (sy_tp P code) P = 3 ↔ ¬ sy_tp P code < P := by
    unfold sy_hd
    have := sy_pl_2 code (sy_tp P code)
    split <;> omega
  have h4 : sy_cc code (sy_tp P code) 0 P + sy_cc code (sy_tp P code) 1 P + sy_cc code (sy_tp P code) 2 P = if sy_hd code (sy_tp P code) P = 3 then P else P - 1 := by
    rw [hs]
    by_cases e : sy_tp P code < P
    · rw [if_pos e, if_neg (by rw [h3]; exact fun z => z e)]
    · rw [if_neg e, if_pos (by rw [h3]; exact e)]
  have h5 : (if sy_hd code (sy_tp P code) P = 3 then P else P - 1) ≤ 4 := by
    split <;> omega
  obtain ⟨d1, d2, d3, d4, d5⟩ := sy_nu_d h1 h2 (show sy_cc code (sy_tp P code) 1 P ≤ 4 by omega) (show sy_cc code (sy_tp P code) 2 P ≤ 4 by omega)
  have h6 : sy_al P (sy_cl P code) = sy_cc code (sy_tp P code) 0 P + sy_cc code (sy_tp P code) 1 P + sy_cc code (sy_tp P code) 2 P := by
    unfold sy_al sy_cl
    rw [d2, h4]
  refine ⟨⟨d5, ?_⟩, d1, d2, ?_⟩
  · rw [h6]
    unfold sy_cl
    rw [d3, d4]
    omega
  · intro i hi
    have hi' : i = 0 ∨ i = 1 ∨ i = 2 := by omega
    unfold sy_ct
    rw [h6]
    unfold sy_cl
    rw [d3, d4]
    rcases hi' with rfl | rfl | rfl
    · rw [if_pos rfl]
      omega
    · rfl
    · rfl
/-- a code with one place, the shared value and the holder put anew -/
theorem sy_put {P p code' v s t : Nat} (hP : 1 ≤ P) (hP4 : P ≤ 4) (hp : p < P) (hc : code' < sy_lm P) (hv : v ≤ 2) (hs : s ≤ 2) (ht : t ≤ P) :
    ∃ code, code < sy_lm P ∧ sy_pl code p = v ∧ (∀ q, q < P → q ≠ p → sy_pl code q = sy_pl code' q) ∧ sy_sd P code = s ∧ sy_tp P code = t ∧
      code' + v * 3 ^ p + s * 3 ^ P + t * (3 * 3 ^ P) = code + sy_pl code' p * 3 ^ p + sy_sd P code' * 3 ^ P + sy_tp P code' * (3 * 3 ^ P) := by
  refine ⟨code' % 3 ^ P - sy_pl code' p * 3 ^ p + v * 3 ^ p + s * 3 ^ P + t * (3 * 3 ^ P), ?_⟩
  have hP' : P = 1 ∨ P = 2 ∨ P = 3 ∨ P = 4 := by omega
  have hp' : p = 0 ∨ p = 1 ∨ p = 2 ∨ p = 3 := by omega
  unfold sy_lm at hc ⊢
  unfold sy_pl sy_sd sy_tp
  rcases hP' with rfl | rfl | rfl | rfl <;> rcases hp' with rfl | rfl | rfl | rfl <;> first
    | omega
    | (refine ⟨by omega, by omega, ?_, by omega, by omega, by omega⟩
       intro q hq hn
       have hq' : q = 0 ∨ q = 1 ∨ q = 2 ∨ q = 3 := by omega
       rcases hq' with rfl | rfl | rfl | rfl <;> omega)
theorem sy_cc_eq {code code' top top' i p : Nat} (n : Nat) (h : ∀ q, q < n → q ≠ p → sy_pl code q = sy_pl code' q) (ht : ∀ q, q < n → q ≠ p → (q = top ↔ q = top')) :
    (n ≤ p → sy_cc code top i n = sy_cc code' top' i n) ∧
    (p < n → sy_cc code top i n + (if p ≠ top' ∧ sy_pl code' p = i then 1 else 0) = sy_cc code' top' i n + (if p ≠ top ∧ sy_pl code p = i then 1 else 0)) := by
  induction n with
  | zero => exact ⟨fun _ => rfl, fun z => absurd z (by omega)⟩
  | succ n ih =>
    obtain ⟨i1, i2⟩ := ih (fun q hq => h q (by omega)) (fun q hq => ht q (by omega))
    unfold sy_cc
    constructor
    · intro z
      rw [i1 (by omega), h n (by omega) (by omega)]
      have t := ht n (by omega) (by omega)
      have t' : (n ≠ top ∧ sy_pl code' n = i) ↔ (n ≠ top' ∧ sy_pl code' n = i) := by
        rw [ne_eq, ne_eq, t]
      simp only [t']
    · intro z
      by_cases e : p = n
      · subst e
        rw [i1 (by omega)]
        omega
      · have t := ht n (by omega) (fun g => e g.symm)
        have t' : (n ≠ top ∧ sy_pl code' n = i) ↔ (n ≠ top' ∧ sy_pl code' n = i) := by
          rw [ne_eq, ne_eq, t]
        have j := i2 (by omega)
        rw [h n (by omega) (fun g => e g.symm)]
        simp only [t']
        omega
theorem sy_cc_pos {code top i : Nat} : ∀ n, sy_cc code top i n ≠ 0 → ∃ q, q < n ∧ q ≠ top ∧ sy_pl code q = i := by
  intro n
  induction n with
  | zero => exact fun h => absurd rfl h
  | succ n ih =>
    intro h
    unfold sy_cc at h
    by_cases e : n ≠ top ∧ sy_pl code n = i
    · exact ⟨n, by omega, e.1, e.2⟩
    · rw [if_neg e] at h
      obtain ⟨q, h1, h2⟩ := ih h
      exact ⟨q, by omega, h2⟩
end
section
/-- what taking rule r by process p makes of a code, as the class computes it -/
def sy_mk (ρ : Nat → Nat → Nat) (P code r p : Nat) : Int32 :=
  nI code + (nI (ρ 1 r) - nI (ρ 0 r)) * nI (3 ^ p) + (if ρ 3 r = 3 then 0 else (nI (ρ 3 r) - nI (sy_sd P code)) * nI (3 ^ P)) + (nI (if ρ 6 r = 2 then P else if ρ 6 r = 1 then p else sy_tp P code) - nI (sy_tp P code)) * 3 * nI (3 ^ P)
def sy_l1 (ρ : Nat → Nat → Nat) (P code next r p : Nat) : Prop := sy_pl code p = ρ 0 r ∧ sy_en ρ P (sy_cl P code) r (if p = sy_tp P code then 1 else 0) ∧ sy_mk ρ P code r p = nI next
def sy_le (ρ : Nat → Nat → Nat) (P R code next : Nat) : Prop := ∃ r, r < R ∧ ∃ p, p < P ∧ sy_l1 ρ P code next r p
theorem sy_ring1 {a b w f g k x y s t u : Int32} (h : b + x * w + s * f + t * (3 * f) = a + y * w + g * f + u * (3 * f)) (hk : k = (g - s) * f) :
    a + (y - x) * w + k + (u - t) * 3 * f = b := by
  grind
theorem sy_tp_le {P code : Nat} (hc : code < sy_lm P) : sy_tp P code ≤ P := by
  unfold sy_tp
  unfold sy_lm at hc
  exact Nat.le_of_lt_succ (Nat.div_lt_of_lt_mul hc)
/-- somebody has come to where the rule leads -/
theorem sy_toex {ρ : Nat → Nat → Nat} {P c r b code' : Nat} (hP : 1 ≤ P) (hP4 : P ≤ 4) (hb : b ≤ 1) (hr : sy_rk ρ r) (hc : sy_cv P c) (he : sy_en ρ P c r b)
    (h : sy_cl P code' = sy_af ρ c r b) (hj : sy_jo ρ r b = 1) : sy_cc code' (sy_tp P code') (ρ 1 r) P ≠ 0 := by
  obtain ⟨v0, v1, v2, v3, v4⟩ := sy_af_v hP hP4 hb hr hc he
  obtain ⟨_, _, _, v5⟩ := sy_af_d hP hP4 hb hr hc he
  obtain ⟨d0, d1, d2, d3⟩ := sy_cl_d (code := code') hP hP4
  rw [← d3 _ (show ρ 1 r < 3 from Nat.lt_succ_of_le hr.2.1), h]
  unfold sy_ct sy_al
  rw [v2, v3, v4]
  unfold sy_ni
  rw [hj]
  obtain ⟨h0, h1, h2, h3, h4, h5, h6⟩ := hr
  obtain ⟨hc1, hc2⟩ := hc
  obtain ⟨⟨e0, e0'⟩, e1, e2, e3, e4, e5, e6⟩ := he
  unfold sy_al at hc2
  unfold sy_ct sy_al at e0'
  clear e2 e1 d3
  unfold sy_nh
  unfold sy_jo at hj
  have hb' : b = 0 ∨ b = 1 := by omega
  have ht : ρ 1 r = 0 ∨ ρ 1 r = 1 ∨ ρ 1 r = 2 := by omega
  have hf : ρ 0 r = 0 ∨ ρ 0 r = 1 ∨ ρ 0 r = 2 := by omega
  rcases hb' with rfl | rfl
  · have t1 : ¬ ρ 6 r = 1 := by
      intro z
      rw [if_neg (by omega), if_pos z] at hj
      omega
    have e0'' := e0' rfl
    by_cases t2 : c / 25 % 4 = 3
    · rcases ht with t | t | t <;> rcases hf with g | g | g <;> simp [t, g, t1, t2] at e0'' hc2 ⊢ <;> omega
    · rcases ht with t | t | t <;> rcases hf with g | g | g <;> simp [t, g, t1, t2] at e0'' hc2 ⊢ <;> omega
  · have t1 : ρ 6 r = 2 := by
      by_cases z : ρ 6 r = 2
      · exact z
      · rw [if_pos rfl, if_neg z] at hj
        omega
    have e0'' := e0 rfl
    have t2 : ¬ c / 25 % 4 = 3 := by omega
    rcases ht with t | t | t <;> simp [t, t1, t2] at hc2 ⊢ <;> omega
/-- which process moved, and who held the token before -/
theorem sy_who {ρ : Nat → Nat → Nat} {P c r b code' : Nat} (hP : 1 ≤ P) (hP4 : P ≤ 4) (hb : b ≤ 1) (hr : sy_rk ρ r) (hc : sy_cv P c) (he : sy_en ρ P c r b)
    (hc' : code' < sy_lm P) (h : sy_cl P code' = sy_af ρ c r b) :
    ∃ p t, p < P ∧ t ≤ P ∧ sy_pl code' p = ρ 1 r ∧ (if ρ 6 r = 2 then P else if ρ 6 r = 1 then p else t) = sy_tp P code' ∧ (p = t ↔ b = 1) ∧ (p ≠ sy_tp P code' ↔ sy_jo ρ r b = 1) ∧
      (∀ q, q < P → q ≠ p → (q = t ↔ q = sy_tp P code')) ∧ (b = 0 → ρ 6 r = 1 → t = P) ∧ (b = 0 → ρ 6 r ≠ 1 → t = sy_tp P code') := by
  obtain ⟨v0, v1, v2, v3, v4⟩ := sy_af_v hP hP4 hb hr hc he
  obtain ⟨d0, d1, d2, d3⟩ := sy_cl_d (code := code') hP hP4
  have hx := sy_toex hP hP4 hb hr hc he h
  have ht := sy_tp_le hc'
  have hh : sy_hd code' (sy_tp P code') P = sy_nh ρ c r b := by rw [← d2, h, v2]
  obtain ⟨_, _, _, e3, e4, e5, e6⟩ := he
  have hr1 := hr.2.1
  have hb' : b = 0 ∨ b = 1 := by omega
  unfold sy_hd sy_nh at hh
  rcases hb' with rfl | rfl
  · rw [if_neg (show ¬ (0 : Nat) = 1 by omega)] at hh
    have n2 : ¬ ρ 6 r = 2 := fun z => absurd (e4 z) (by omega)
    by_cases t1 : ρ 6 r = 1
    · rw [if_pos t1] at hh
      have g : sy_tp P code' < P := by
        by_cases z : sy_tp P code' < P
        · exact z
        · rw [if_neg z] at hh
          omega
      rw [if_pos g] at hh
      have hj : ¬ sy_jo ρ r 0 = 1 := by
        unfold sy_jo
        rw [if_neg (by omega), if_pos t1]
        omega
      exact ⟨sy_tp P code', P, g, Nat.le_refl P, hh, by rw [if_neg n2, if_pos t1], ⟨fun z => by omega, fun z => by omega⟩, ⟨fun z => absurd rfl z, fun z => absurd z hj⟩, fun q hq hn => ⟨fun z => by omega, fun z => absurd z hn⟩, fun _ _ => rfl, fun _ z => absurd t1 z⟩
    · rw [if_neg t1] at hh
      have hj : sy_jo ρ r 0 = 1 := by
        unfold sy_jo
        rw [if_neg (by omega), if_neg t1]
      obtain ⟨p, p1, p2, p3⟩ := sy_cc_pos P (hx hj)
      exact ⟨p, sy_tp P code', p1, ht, p3, by rw [if_neg n2, if_neg t1], ⟨fun z => absurd z p2, fun z => by omega⟩, ⟨fun _ => hj, fun _ => p2⟩, fun q hq hn => Iff.rfl, fun _ z => absurd z t1, fun _ _ => rfl⟩
  · rw [if_pos rfl] at hh
    by_cases t1 : ρ 6 r = 2
    · rw [if_pos t1] at hh
      have g : ¬ sy_tp P code' < P := by
        intro z
        rw [if_pos z] at hh
        have := sy_pl_2 code' (sy_tp P code')
        omega
      have hj : sy_jo ρ r 1 = 1 := by
        unfold sy_jo
        rw [if_pos rfl, if_pos t1]
      obtain ⟨p, p1, p2, p3⟩ := sy_cc_pos P (hx hj)
      exact ⟨p, p, p1, by omega, p3, by rw [if_pos t1]; omega, ⟨fun _ => rfl, fun _ => rfl⟩, ⟨fun _ => hj, fun _ => p2⟩, fun q hq hn => ⟨fun z => absurd z hn, fun z => by omega⟩, fun z => absurd z (by omega), fun z => absurd z (by omega)⟩
    · rw [if_neg t1] at hh
      have g : sy_tp P code' < P := by
        by_cases z : sy_tp P code' < P
        · exact z
        · rw [if_neg z] at hh
          omega
      rw [if_pos g] at hh
      have hj : ¬ sy_jo ρ r 1 = 1 := by
        unfold sy_jo
        rw [if_pos rfl, if_neg t1]
        omega
      refine ⟨sy_tp P code', sy_tp P code', g, by omega, hh, ?_, ⟨fun _ => rfl, fun _ => rfl⟩, ⟨fun z => absurd rfl z, fun z => absurd z hj⟩, fun q hq hn => Iff.rfl, fun z => absurd z (by omega), fun z => absurd z (by omega)⟩
      rw [if_neg t1]
      split <;> rfl
theorem sy_lift {ρ : Nat → Nat → Nat} {P R c r b code' : Nat} (hP : 1 ≤ P) (hP4 : P ≤ 4) (hb : b ≤ 1) (hrR : r < R) (hr : sy_rk ρ r) (hc : sy_cv P c) (he : sy_en ρ P c r b)
    (hc' : code' < sy_lm P) (h : sy_cl P code' = sy_af ρ c r b) : ∃ code, code < sy_lm P ∧ sy_cl P code = c ∧ sy_le ρ P R code code' := by
  obtain ⟨p, t, w1, w2, w3, w4, w5, w6, w7, w8, w9⟩ := sy_who hP hP4 hb hr hc he hc' h
  obtain ⟨v0, v1, v2, v3, v4⟩ := sy_af_v hP hP4 hb hr hc he
  obtain ⟨_, _, _, v5⟩ := sy_af_d hP hP4 hb hr hc he
  obtain ⟨d0, d1, d2, d3⟩ := sy_cl_d (code := code') hP hP4
  have hc3 := hc.1
  obtain ⟨code, c1, c2, c3, c4, c5, c6⟩ := sy_put (v := ρ 0 r) (s := c / 100) (t := t) hP hP4 w1 hc' hr.1 (by omega) w2
  have k1 := (sy_cc_eq (code := code) (code' := code') (top := t) (top' := sy_tp P code') (i := 1) (p := p) P c3 w7).2 w1
  have k2 := (sy_cc_eq (code := code) (code' := code') (top := t) (top' := sy_tp P code') (i := 2) (p := p) P c3 w7).2 w1
  have b1 : sy_cc code' (sy_tp P code') 1 P = sy_ni ρ (c / 5 % 5) r b 1 := by
    rw [← d3 1 (by omega), h, ← v3]
    rfl
  have b2 : sy_cc code' (sy_tp P code') 2 P = sy_ni ρ (c % 5) r b 2 := by
    rw [← d3 2 (by omega), h, ← v4]
    rfl
  have hh : sy_hd code' (sy_tp P code') P = sy_nh ρ c r b := by rw [← d2, h, v2]
  have hs : sy_sd P code' = sy_ns ρ c r := by rw [← d1, h, v1]
  have hj : sy_jo ρ r b = 0 ∨ sy_jo ρ r b = 1 := by
    unfold sy_jo
    split <;> split <;> omega
  have m1 : sy_cc code t 1 P = c / 5 % 5 := by
    rw [b1, w3, c2] at k1
    unfold sy_ni at k1
    have hb' : b = 0 ∨ b = 1 := by omega
    rcases hb' with rfl | rfl <;> rcases hj with j | j <;> simp only [ne_eq, w5, w6, j] at k1 <;> simp at k1 v5 <;> (try split at k1) <;> (try split at k1) <;> omega
  have m2 : sy_cc code t 2 P = c % 5 := by
    rw [b2, w3, c2] at k2
    unfold sy_ni at k2
    have hb' : b = 0 ∨ b = 1 := by omega
    rcases hb' with rfl | rfl <;> rcases hj with j | j <;> simp only [ne_eq, w5, w6, j] at k2 <;> simp at k2 v5 <;> (try split at k2) <;> (try split at k2) <;> omega
  have m3 : sy_hd code t P = c / 25 % 4 := by
    have hb' : b = 0 ∨ b = 1 := by omega
    obtain ⟨⟨e0, _⟩, _, _, e3, e4, e5, e6⟩ := he
    rcases hb' with rfl | rfl
    · by_cases t1 : ρ 6 r = 1
      · rw [w8 rfl t1]
        unfold sy_hd
        rw [if_neg (by omega)]
        exact (e3 t1).symm
      · have t2 := w9 rfl t1
        unfold sy_nh at hh
        rw [if_neg (by omega), if_neg t1] at hh
        rw [← hh, ← t2]
        unfold sy_hd
        by_cases z : t < P
        · rw [if_pos z, if_pos z]
          refine c3 t z (fun g => ?_)
          exact absurd (w5.mp g.symm) (by omega)
        · rw [if_neg z, if_neg z]
    · have t1 := w5.mpr rfl
      rw [← t1]
      unfold sy_hd
      rw [if_pos w1, c2]
      exact (e0 rfl).symm
  have hcl : sy_cl P code = c := by
    rw [sy_nu_e c hc3]
    unfold sy_cl
    rw [c4, c5, m1, m2, m3]
  refine ⟨code, c1, hcl, r, hrR, p, w1, c2, ?_, ?_⟩
  · rw [hcl, c5]
    have : (if p = t then 1 else 0) = b := by
      by_cases z : p = t
      · rw [if_pos z, w5.mp z]
      · rw [if_neg z]
        have := mt w5.mpr z
        omega
    rw [this]
    exact he
  · unfold sy_mk
    rw [c4, c5, w4]
    have c7 := congrArg nI c6
    rw [w3] at c7
    simp only [← nI_add, ← pk_mul] at c7
    refine sy_ring1 (g := nI (sy_sd P code')) (s := nI (c / 100)) c7 ?_
    rw [hs]
    unfold sy_ns
    split
    · grind
    · rfl
/-- each class has a state -/
def sy_v (c j : Nat) : Nat := if j < c / 5 % 5 then 1 else if j < c / 5 % 5 + c % 5 then 2 else 0
def sy_x (c p : Nat) : Nat := if c / 25 % 4 = 3 then sy_v c p else if p = 0 then c / 25 % 4 else sy_v c (p - 1)
def sy_rep (P c : Nat) : Nat := sy_x c 0 + (if 1 < P then sy_x c 1 * 3 else 0) + (if 2 < P then sy_x c 2 * 9 else 0) + (if 3 < P then sy_x c 3 * 27 else 0) + (c / 100) * 3 ^ P + (if c / 25 % 4 = 3 then P else 0) * (3 * 3 ^ P)
theorem sy_rep_t : ∀ P, P < 5 → 1 ≤ P → ∀ c, c < 300 → c / 5 % 5 + c % 5 ≤ sy_al P c → sy_cl P (sy_rep P c) = c ∧ sy_rep P c < sy_lm P := by
  decide +kernel
theorem sy_sur {P c : Nat} (hP : 1 ≤ P) (hP4 : P ≤ 4) (hc : sy_cv P c) : ∃ code, code < sy_lm P ∧ sy_cl P code = c :=
  ⟨sy_rep P c, (sy_rep_t P (by omega) hP c hc.1 hc.2).2, (sy_rep_t P (by omega) hP c hc.1 hc.2).1⟩
theorem sy_cc_zero {code top i : Nat} : ∀ n, sy_cc code top i n = 0 → ∀ q, q < n → q ≠ top → sy_pl code q ≠ i := by
  intro n
  induction n with
  | zero => exact fun _ q hq => absurd hq (by omega)
  | succ n ih =>
    intro h q hq ht
    unfold sy_cc at h
    by_cases e : q = n
    · subst e
      intro z
      rw [if_pos ⟨ht, z⟩] at h
      omega
    · exact ih (by omega) q (by omega) ht
/-- the first state is alone in its class -/
theorem sy_first {P code : Nat} (hP : 1 ≤ P) (hP4 : P ≤ 4) (hc : code < sy_lm P) (h : sy_cl P code = 75) : code = P * (3 * 3 ^ P) := by
  obtain ⟨d0, d1, d2, d3⟩ := sy_cl_d (code := code) hP hP4
  have ht := sy_tp_le hc
  rw [h] at d1 d2 d3
  have h1 := d3 1 (by omega)
  have h2 := d3 2 (by omega)
  have g : ¬ sy_tp P code < P := by
    intro z
    unfold sy_hd at d2
    rw [if_pos z] at d2
    have := sy_pl_2 code (sy_tp P code)
    omega
  have z : ∀ q, q < P → sy_pl code q = 0 := by
    intro q hq
    have z1 := sy_cc_zero P h1.symm q hq (by omega)
    have z2 := sy_cc_zero P h2.symm q hq (by omega)
    have := sy_pl_2 code q
    omega
  have ht' : sy_tp P code = P := by omega
  unfold sy_pl at z
  unfold sy_sd at d1
  unfold sy_tp at ht'
  unfold sy_lm at hc
  have hP' : P = 1 ∨ P = 2 ∨ P = 3 ∨ P = 4 := by omega
  rcases hP' with rfl | rfl | rfl | rfl
  · have z0 := z 0 (by omega)
    omega
  · have z0 := z 0 (by omega)
    have z1 := z 1 (by omega)
    omega
  · have z0 := z 0 (by omega)
    have z1 := z 1 (by omega)
    have z2 := z 2 (by omega)
    omega
  · have z0 := z 0 (by omega)
    have z1 := z 1 (by omega)
    have z2 := z 2 (by omega)
    have z3 := z 3 (by omega)
    omega
end
section
def sy_ra (R : Nat) (ρ : Nat → Nat → Nat) (a1 a2 a3 a4 a5 a6 a7 : Nat → Int32) : Prop :=
  ∀ r, r < R → sy_rk ρ r ∧ a1 r = nI (ρ 0 r) ∧ a2 r = nI (ρ 1 r) ∧ a3 r = nI (ρ 2 r) ∧ a4 r = nI (ρ 3 r) ∧ a5 r = nI (ρ 4 r) ∧ a6 r = nI (ρ 5 r) ∧ a7 r = nI (ρ 6 r)
def sy_ld (P c : Nat) (sh ho : Int32) (a14 : Nat → Int32) : Prop := sh = nI (c / 100) ∧ ho = nI (c / 25 % 4) ∧ ∀ i, i < 3 → a14 i = nI (sy_ct P c i)
theorem sy_ct_4 {P c i : Nat} (hP4 : P ≤ 4) : sy_ct P c i ≤ 4 := by
  unfold sy_ct sy_al
  split
  · split <;> omega
  · split <;> omega
theorem sy_pw {P : Nat} (hP4 : P ≤ 4) : 1 ≤ 3 ^ P ∧ 3 ^ P ≤ 81 := by
  have hP' : P = 0 ∨ P = 1 ∨ P = 2 ∨ P = 3 ∨ P = 4 := by omega
  rcases hP' with rfl | rfl | rfl | rfl | rfl <;> decide
section
variable {P R : Nat} {ρ : Nat → Nat → Nat} {sh ho rc ac kn ex : Int32} {a1 a2 a3 a4 a5 a6 a7 a8 a9 a10 a11 a12 a13 a14 : Nat → Int32}
theorem sy_load63 {post : St2 → Prop} {c : Nat} {z : Int32} (hc : sy_cv P c) (hz : z = nI (sy_al P c)) (h1 : a14 1 = nI (c / 5 % 5)) (h2 : a14 2 = nI (c % 5)) (hs : sh = nI (c / 100)) (hh : ho = nI (c / 25 % 4))
    (H : ∀ sh' ho' a14', sy_ld P c sh' ho' a14' → post (sh', ho', nI P, rc, ac, kn, ex, a1, a2, a3, a4, a5, a6, a7, a8, a9, a10, a11, a12, a13, a14')) : wX_load_63 post z sh ho (nI P) rc ac kn ex a1 a2 a3 a4 a5 a6 a7 a8 a9 a10 a11 a12 a13 a14 := by
  refine nm_e (H _ _ _ ⟨hs, hh, ?_⟩)
  intro i hi
  have hc2 := hc.2
  have hi' : i = 0 ∨ i = 1 ∨ i = 2 := by omega
  rcases hi' with rfl | rfl | rfl
  · rw [pk_us, hz, h1, h2, pk_sub (by omega), pk_sub (by omega)]
    rfl
  · rw [pk_un (by omega), h1]
    rfl
  · rw [pk_un (by omega), h2]
    rfl
theorem sy_load {post : St2 → Prop} {c : Nat} (hP : 1 ≤ P) (hc : sy_cv P c)
    (H : ∀ sh' ho' a14', sy_ld P c sh' ho' a14' → post (sh', ho', nI P, rc, ac, kn, ex, a1, a2, a3, a4, a5, a6, a7, a8, a9, a10, a11, a12, a13, a14')) : wpX_load post (sh, ho, nI P, rc, ac, kn, ex, a1, a2, a3, a4, a5, a6, a7, a8, a9, a10, a11, a12, a13, a14) (nI c) := by
  have hc3 := hc.1
  have e1 : nI c - nI c / 5 * 5 = nI (c % 5) := pk_rem (d := 5) (by omega) (by omega) (by omega)
  have e2 : nI c / 5 = nI (c / 5) := pk_div (d := 5) (by omega) (by omega) (by omega)
  have e3 : nI (c / 5) - nI (c / 5) / 5 * 5 = nI (c / 5 % 5) := pk_rem (d := 5) (by omega) (by omega) (by omega)
  have e4 : nI (c / 5) / 5 = nI (c / 25) := by
    rw [show nI (c / 5) / 5 = nI (c / 5 / 5) from pk_div (d := 5) (by omega) (by omega) (by omega), Nat.div_div_eq_div_mul]
  have e5 : nI (c / 25) &&& 3 = nI (c / 25 % 4) := pk_andN (by omega) 2 (by decide)
  have e6 : nI (c / 25) >>> ((2 : Int32) &&& 31) = nI (c / 100) := by
    rw [pk_shrN (by omega) _ 2 (by decide), show (2 : Nat) ^ 2 = 4 from rfl, Nat.div_div_eq_div_mul]
  unfold wpX_load
  dsimp only
  refine ⟨by decide, nm_e ⟨by decide, nm_r e2 ⟨by decide, nm_e ⟨by decide, nm_r e4 (nm_r e5 (nm_r e6 ?_))⟩⟩⟩⟩
  rw [e1, e3]
  refine pk_eq (c / 25 % 4) 3 (fun g => ?_) (fun g => ?_)
  · exact sy_load63 hc (by unfold sy_al; rw [if_pos g]) pk_us (by rw [pk_un (by omega), pk_us]) rfl rfl H
  · exact sy_load63 hc (by unfold sy_al; rw [if_neg g]; exact pk_sub (b := 1) hP) pk_us (by rw [pk_un (by omega), pk_us]) rfl rfl H
theorem sy_e111 {post : Int32 → Prop} {c r b u v : Nat} (hb : b ≤ 1) (hr : r < 12) (hk : sy_rk ρ r) (h6 : a6 r = nI (ρ 5 r)) (h7 : a7 r = nI (ρ 6 r)) (hh : ho = nI (c / 25 % 4)) (hvu : v ≤ u) (hu : u ≤ 6)
    (T : u ≤ ρ 5 r + v → sy_e3 ρ c r b → post 1) (F : ¬ (u ≤ ρ 5 r + v ∧ sy_e3 ρ c r b) → post 0) : wX_enabled_111 post (nI r) (nI b) (nI v) (nI u) sh ho (nI P) rc ac kn ex a1 a2 a3 a4 a5 a6 a7 a8 a9 a10 a11 a12 a13 a14 := by
  obtain ⟨r0, r1, r2, r3, r4, r5, r6⟩ := hk
  have hb' : b = 0 ∨ b = 1 := by omega
  unfold wX_enabled_111
  rw [nI_clamp (show r < 2 ^ 31 by omega), h6, h7, hh]
  refine nm_r (pk_sub hvu) ⟨pk_in r 12 hr, pk_le (u - v) (ρ 5 r) (fun z1 => ⟨pk_in r 12 hr, nm_e ?_⟩) (fun z1 => F (fun z => by omega))⟩
  refine pk_eq (ρ 6 r) 1 (fun t1 => ?_) (fun t1 => ?_)
  · exact pk_eq (c / 25 % 4) 3 (fun g => T (by omega) ⟨fun _ => g, fun z => by omega, fun z => by omega, fun z => by omega⟩) (fun g => F (fun z => g (z.2.1 t1)))
  · refine pk_eq (ρ 6 r) 2 (fun t2 => ?_) (fun t2 => ?_)
    · rcases hb' with rfl | rfl
      · exact ⟨rfl, F (fun z => absurd (z.2.2.1 t2) (by omega))⟩
      · exact ⟨rfl, T (by omega) ⟨fun z => absurd z t1, fun _ => rfl, fun _ => rfl, fun z => by omega⟩⟩
    · refine pk_eq (ρ 6 r) 3 (fun t3 => ?_) (fun t3 => ?_)
      · rcases hb' with rfl | rfl
        · exact ⟨rfl, F (fun z => absurd (z.2.2.2.1 t3) (by omega))⟩
        · exact ⟨rfl, T (by omega) ⟨fun z => absurd z t1, fun _ => rfl, fun _ => rfl, fun z => by omega⟩⟩
      · refine pk_eq (ρ 6 r) 0 (fun t4 => ?_) (fun t4 => ?_)
        · exact T (by omega) ⟨fun z => by omega, fun z => by omega, fun z => by omega, fun z => by omega⟩
        · exact pk_eq b 0 (fun g => T (by omega) ⟨fun z => by omega, fun z => by omega, fun z => by omega, fun z => g⟩) (fun g => F (fun z => g (z.2.2.2.2 (by omega))))
theorem sy_e91 {post : Int32 → Prop} {c r b w n : Nat} (hb : b ≤ 1) (hr : r < 12) (hk : sy_rk ρ r) (h5 : a5 r = nI (ρ 4 r)) (h6 : a6 r = nI (ρ 5 r)) (h7 : a7 r = nI (ρ 6 r)) (hh : ho = nI (c / 25 % 4)) (hw : w ≤ 1) (hn : n ≤ 4) (hv : ρ 0 r = ρ 4 r → 1 ≤ n + w)
    (T : n + w ≤ ρ 5 r + (if ρ 0 r = ρ 4 r then 1 else 0) → sy_e3 ρ c r b → post 1) (F : ¬ (n + w ≤ ρ 5 r + (if ρ 0 r = ρ 4 r then 1 else 0) ∧ sy_e3 ρ c r b) → post 0) : wX_enabled_91 post (nI r) (nI b) (nI (ρ 0 r)) (nI w) (nI n) sh ho (nI P) rc ac kn ex a1 a2 a3 a4 a5 a6 a7 a8 a9 a10 a11 a12 a13 a14 := by
  have hk' := hk
  obtain ⟨r0, r1, r2, r3, r4, r5, r6⟩ := hk'
  unfold wX_enabled_91
  rw [nI_clamp (show r < 2 ^ 31 by omega), h5]
  refine nm_r (nI_add n w) ⟨pk_in r 12 hr, pk_eq (ρ 0 r) (ρ 4 r) (fun g => ?_) (fun g => ?_)⟩
  · rw [if_pos g] at T F
    exact sy_e111 (v := 1) hb hr hk h6 h7 hh (hv g) (by omega) T F
  · rw [if_neg g] at T F
    exact sy_e111 (v := 0) hb hr hk h6 h7 hh (by omega) (by omega) T F
theorem sy_e58 {post : Int32 → Prop} {c r b : Nat} (hP4 : P ≤ 4) (hb : b ≤ 1) (hr : r < 12) (hk : sy_rk ρ r) (h5 : a5 r = nI (ρ 4 r)) (h6 : a6 r = nI (ρ 5 r)) (h7 : a7 r = nI (ρ 6 r)) (hl : sy_ld P c sh ho a14) (he : sy_e0 ρ P c r b)
    (T : sy_e2 ρ P c r → sy_e3 ρ c r b → post 1) (F : ¬ (sy_e2 ρ P c r ∧ sy_e3 ρ c r b) → post 0) : wX_enabled_58 post (nI r) (nI b) (nI (ρ 0 r)) sh ho (nI P) rc ac kn ex a1 a2 a3 a4 a5 a6 a7 a8 a9 a10 a11 a12 a13 a14 := by
  have hk' := hk
  obtain ⟨r0, r1, r2, r3, r4, r5, r6⟩ := hk'
  obtain ⟨l1, l2, l3⟩ := hl
  have hn : sy_ct P c (ρ 4 r) ≤ 4 := sy_ct_4 hP4
  have hv : ∀ w : Nat, (c / 25 % 4 = ρ 4 r → w = 1) → ρ 0 r = ρ 4 r → 1 ≤ sy_ct P c (ρ 4 r) + w := by
    intro w hw g
    have hb' : b = 0 ∨ b = 1 := by omega
    rcases hb' with rfl | rfl
    · have := he.2 rfl
      rw [g] at this
      omega
    · have := he.1 rfl
      rw [g] at this
      have := hw this
      omega
  unfold sy_e2 at T F
  unfold wX_enabled_58
  rw [nI_clamp (show r < 2 ^ 31 by omega), h5, nI_clamp (show ρ 4 r < 2 ^ 31 by omega), l3 _ (show ρ 4 r < 3 by omega)]
  refine ⟨pk_in r 12 hr, pk_in (ρ 4 r) 3 (by omega), nm_e ⟨pk_in r 12 hr, ?_⟩⟩
  rw [l2]
  refine pk_eq (c / 25 % 4) (ρ 4 r) (fun g => ?_) (fun g => ?_)
  · rw [if_pos g] at T F
    exact sy_e91 (w := 1) hb hr hk h5 h6 h7 rfl (by omega) hn (hv 1 (fun _ => rfl)) T F
  · rw [if_neg g] at T F
    exact sy_e91 (w := 0) hb hr hk h5 h6 h7 rfl (by omega) hn (hv 0 (fun z => absurd z g)) T F
theorem sy_e33 {post : Int32 → Prop} {c r b : Nat} (hP4 : P ≤ 4) (hb : b ≤ 1) (hr : r < 12) (hk : sy_rk ρ r) (h3 : a3 r = nI (ρ 2 r)) (h5 : a5 r = nI (ρ 4 r)) (h6 : a6 r = nI (ρ 5 r)) (h7 : a7 r = nI (ρ 6 r)) (hc : c < 300) (hl : sy_ld P c sh ho a14) (he : sy_e0 ρ P c r b)
    (T : sy_en ρ P c r b → post 1) (F : ¬ sy_en ρ P c r b → post 0) : wX_enabled_33 post (nI r) (nI b) (nI (ρ 0 r)) sh ho (nI P) rc ac kn ex a1 a2 a3 a4 a5 a6 a7 a8 a9 a10 a11 a12 a13 a14 := by
  have hk' := hk
  obtain ⟨r0, r1, r2, r3, r4, r5, r6⟩ := hk'
  have ok : sy_e1 ρ c r → wX_enabled_58 post (nI r) (nI b) (nI (ρ 0 r)) sh ho (nI P) rc ac kn ex a1 a2 a3 a4 a5 a6 a7 a8 a9 a10 a11 a12 a13 a14 :=
    fun h1 => sy_e58 hP4 hb hr hk h5 h6 h7 hl he (fun h2 h3 => T ⟨he, h1, h2, h3⟩) (fun h => F (fun z => h z.2.2))
  unfold wX_enabled_33
  rw [nI_clamp (show r < 2 ^ 31 by omega), h3]
  refine ⟨pk_in r 12 hr, pk_eq (ρ 2 r) 3 (fun g => ok (Or.inl g)) (fun g => ⟨pk_in r 12 hr, ?_⟩)⟩
  exact pk_eq (ρ 2 r) (c / 100) (fun g2 => ok (Or.inr g2)) (fun g2 => F (fun z => z.2.1.elim g g2)) rfl hl.1
theorem sy_enabled {post : Int32 → Prop} {c r b : Nat} (hP4 : P ≤ 4) (hR : R ≤ 12) (hra : sy_ra R ρ a1 a2 a3 a4 a5 a6 a7) (hb : b ≤ 1) (hr : r < R) (hc : c < 300) (hl : sy_ld P c sh ho a14)
    (T : sy_en ρ P c r b → post 1) (F : ¬ sy_en ρ P c r b → post 0) : wpX_enabled post (sh, ho, nI P, rc, ac, kn, ex, a1, a2, a3, a4, a5, a6, a7, a8, a9, a10, a11, a12, a13, a14) (nI r) (nI b) := by
  obtain ⟨hk, h1, h2, h3, h4, h5, h6, h7⟩ := hra r hr
  have hk' := hk
  obtain ⟨r0, r1, r2, r3, r4, r5, r6⟩ := hk'
  have hn : sy_ct P c (ρ 0 r) ≤ 4 := sy_ct_4 hP4
  have ok : sy_e0 ρ P c r b → wX_enabled_33 post (nI r) (nI b) (nI (ρ 0 r)) sh ho (nI P) rc ac kn ex a1 a2 a3 a4 a5 a6 a7 a8 a9 a10 a11 a12 a13 a14 :=
    fun h0 => sy_e33 hP4 hb (by omega) hk h3 h5 h6 h7 hc hl h0 T F
  unfold wpX_enabled
  dsimp only
  rw [nI_clamp (show r < 2 ^ 31 by omega)]
  refine ⟨pk_in r 12 (by omega), nm_r h1 ?_⟩
  rw [nI_clamp (show ρ 0 r < 2 ^ 31 by omega), hl.2.2 _ (show ρ 0 r < 3 by omega)]
  refine pk_eq b 0 (fun g => ⟨pk_in (ρ 0 r) 3 (by omega), ?_⟩) (fun g => ?_)
  · exact pk_eq (sy_ct P c (ρ 0 r)) 0 (fun z => F (fun y => y.1.2 g z)) (fun z => ok ⟨fun y => by omega, fun _ => z⟩)
  · exact pk_eq (c / 25 % 4) (ρ 0 r) (fun z => ok ⟨fun _ => z, fun y => absurd y g⟩) (fun z => F (fun y => z (y.1.1 (by omega)))) hl.2.1
theorem sy_numb {post : Int32 → Prop} {s h x y : Nat} (H : post (nI (sy_nu s h x y))) : wpX_number post () (nI s) (nI h) (nI x) (nI y) := by
  have e : (((nI s * nI 4 + nI h) * nI 5 + nI x) * nI 5 + nI y) = nI (sy_nu s h x y) := by
    simp only [nI_add, pk_mul]
    rfl
  unfold wpX_number
  rw [show ((((nI s * 4 + nI h) * 5 + nI x) * 5) + nI y) = nI (sy_nu s h x y) from e]
  exact H
theorem sy_f164 {post : Int32 → Prop} {c r h x y : Nat} (hr : r < 12) (hk : sy_rk ρ r) (h4 : a4 r = nI (ρ 3 r)) (hs : sh = nI (c / 100))
    (H : post (nI (sy_nu (sy_ns ρ c r) h x y))) : wX_after_164 post (nI r) (nI x) (nI y) (nI h) sh ho (nI P) rc ac kn ex a1 a2 a3 a4 a5 a6 a7 a8 a9 a10 a11 a12 a13 a14 := by
  obtain ⟨r0, r1, r2, r3, r4, r5, r6⟩ := hk
  unfold wX_after_164
  rw [nI_clamp (show r < 2 ^ 31 by omega), h4, hs]
  unfold sy_ns at H
  refine ⟨pk_in r 12 hr, pk_eq (ρ 3 r) 3 (fun g => ?_) (fun g => ⟨pk_in r 12 hr, ?_⟩)⟩
  · rw [if_pos g] at H
    exact sy_numb H
  · rw [if_neg g] at H
    exact sy_numb H
theorem sy_f129 {post : Int32 → Prop} {c r h x y j : Nat} (hj : j ≤ 1) (hr : r < 12) (hk : sy_rk ρ r) (h4 : a4 r = nI (ρ 3 r)) (hs : sh = nI (c / 100))
    (H : post (nI (sy_nu (sy_ns ρ c r) h (x + (if j = 0 then 0 else if ρ 1 r = 1 then 1 else 0)) (y + (if j = 0 then 0 else if ρ 1 r = 2 then 1 else 0))))) : wX_after_129 post (nI r) (nI x) (nI y) (nI h) (nI (ρ 1 r)) (nI j) sh ho (nI P) rc ac kn ex a1 a2 a3 a4 a5 a6 a7 a8 a9 a10 a11 a12 a13 a14 := by
  have hk' := hk
  obtain ⟨r0, r1, r2, r3, r4, r5, r6⟩ := hk'
  unfold wX_after_129
  refine pk_eq j 0 (fun g => ?_) (fun g => ?_)
  · rw [if_pos g, if_pos g] at H
    exact sy_f164 hr hk h4 hs H
  · rw [if_neg g, if_neg g] at H
    refine pk_eq (ρ 1 r) 1 (fun t => ?_) (fun t => ?_)
    · rw [if_pos t] at H
      refine nm_r (nI_1 x) (pk_eq (ρ 1 r) 2 (fun t2 => ?_) (fun t2 => ?_))
      · rw [if_pos t2] at H
        exact nm_r (nI_1 y) (sy_f164 hr hk h4 hs H)
      · rw [if_neg t2] at H
        exact nm_r (nI_add y 0) (sy_f164 hr hk h4 hs H)
    · rw [if_neg t] at H
      refine nm_r (nI_add x 0) (pk_eq (ρ 1 r) 2 (fun t2 => ?_) (fun t2 => ?_))
      · rw [if_pos t2] at H
        exact nm_r (nI_1 y) (sy_f164 hr hk h4 hs H)
      · rw [if_neg t2] at H
        exact nm_r (nI_add y 0) (sy_f164 hr hk h4 hs H)
theorem sy_after {post : Int32 → Prop} {c r b : Nat} (hP : 1 ≤ P) (hP4 : P ≤ 4) (hR : R ≤ 12) (hra : sy_ra R ρ a1 a2 a3 a4 a5 a6 a7) (hb : b ≤ 1) (hr : r < R) (hc : sy_cv P c) (hl : sy_ld P c sh ho a14) (he : sy_en ρ P c r b)
    (H : post (nI (sy_af ρ c r b))) : wpX_after post (sh, ho, nI P, rc, ac, kn, ex, a1, a2, a3, a4, a5, a6, a7, a8, a9, a10, a11, a12, a13, a14) (nI r) (nI b) := by
  obtain ⟨_, _, _, dd⟩ := sy_af_d hP hP4 hb (hra r hr).1 hc he
  obtain ⟨hk, h1, h2, h3, h4, h5, h6, h7⟩ := hra r hr
  have hk' := hk
  obtain ⟨r0, r1, r2, r3, r4, r5, r6⟩ := hk'
  obtain ⟨l1, l2, l3⟩ := hl
  have m1 : a14 1 = nI (c / 5 % 5) := l3 1 (by omega)
  have m2 : a14 2 = nI (c % 5) := l3 2 (by omega)
  unfold wpX_after
  dsimp only
  rw [nI_clamp (show r < 2 ^ 31 by omega), h1, h2, h7, m1, m2]
  refine nm_e (nm_e ⟨pk_in r 12 (by omega), nm_e (pk_eq b 0 (fun g => ⟨pk_in r 12 (by omega), ?_⟩) (fun g => ⟨pk_in r 12 (by omega), ?_⟩))⟩)
  · subst g
    have dd' : (ρ 0 r = 1 → 1 ≤ c / 5 % 5) ∧ (ρ 0 r = 2 → 1 ≤ c % 5) := dd.resolve_left (by omega)
    unfold sy_af sy_nh sy_ni sy_jo at H
    rw [if_neg (show ¬ (0 : Nat) = 1 by omega), if_neg (show ¬ (0 : Nat) = 1 by omega), if_neg (show ¬ (0 : Nat) = 1 by omega), if_neg (show ¬ (0 : Nat) = 1 by omega)] at H
    have k109 : ∀ x v : Nat, v ≤ c % 5 → v = (if ρ 0 r = 2 then 1 else 0) → x = c / 5 % 5 - (if ρ 0 r = 1 then 1 else 0) → wX_after_109 post (nI r) (nI x) ho (nI (ρ 1 r)) 1 (nI v) (nI (c % 5)) sh ho (nI P) rc ac kn ex a1 a2 a3 a4 a5 a6 a7 a8 a9 a10 a11 a12 a13 a14 := by
      intro x v hv hv' hx
      rw [← hv', ← hx] at H
      unfold wX_after_109
      rw [nI_clamp (show r < 2 ^ 31 by omega), h7]
      refine nm_r (pk_sub hv) ⟨pk_in r 12 (by omega), pk_eq (ρ 6 r) 1 (fun t => ?_) (fun t => ?_)⟩
      · rw [if_pos t, if_pos t] at H
        exact sy_f129 (j := 0) (by omega) (by omega) hk h4 l1 H
      · rw [if_neg t, if_neg t] at H
        rw [l2]
        exact sy_f129 (j := 1) (by omega) (by omega) hk h4 l1 H
    have k90 : ∀ v : Nat, v ≤ c / 5 % 5 → v = (if ρ 0 r = 1 then 1 else 0) → wX_after_90 post (nI r) (nI (c % 5)) ho (nI (ρ 1 r)) 1 (nI v) (nI (c / 5 % 5)) sh ho (nI P) rc ac kn ex a1 a2 a3 a4 a5 a6 a7 a8 a9 a10 a11 a12 a13 a14 := by
      intro v hv hv'
      unfold wX_after_90
      rw [nI_clamp (show r < 2 ^ 31 by omega), h1]
      refine nm_r (pk_sub hv) ⟨pk_in r 12 (by omega), pk_eq (ρ 0 r) 2 (fun t => ?_) (fun t => ?_)⟩
      · exact k109 _ 1 (dd'.2 t) (by rw [if_pos t]) (by rw [hv'])
      · exact k109 _ 0 (by omega) (by rw [if_neg t]) (by rw [hv'])
    refine pk_eq (ρ 0 r) 1 (fun t => ?_) (fun t => ?_)
    · exact k90 1 (dd'.1 t) (by rw [if_pos t])
    · exact k90 0 (by omega) (by rw [if_neg t])
  · have g' : b = 1 := by omega
    subst g'
    unfold sy_af sy_nh sy_ni sy_jo at H
    rw [if_pos (show (1 : Nat) = 1 from rfl), if_pos (show (1 : Nat) = 1 from rfl), if_pos (show (1 : Nat) = 1 from rfl), if_pos (show (1 : Nat) = 1 from rfl)] at H
    have k52 : ∀ z : Int32, z = nI (if ρ 6 r = 2 then 3 else ρ 1 r) → wX_after_52 post (nI r) (nI (c / 5 % 5)) (nI (c % 5)) (nI (ρ 1 r)) z sh ho (nI P) rc ac kn ex a1 a2 a3 a4 a5 a6 a7 a8 a9 a10 a11 a12 a13 a14 := by
      intro z hz
      unfold wX_after_52
      rw [nI_clamp (show r < 2 ^ 31 by omega), h7, hz]
      refine ⟨pk_in r 12 (by omega), pk_eq (ρ 6 r) 2 (fun t => ?_) (fun t => ?_)⟩
      · rw [if_pos t, if_pos t] at H
        rw [if_pos t]
        exact sy_f129 (j := 1) (by omega) (by omega) hk h4 l1 H
      · rw [if_neg t, if_neg t] at H
        rw [if_neg t]
        exact sy_f129 (j := 0) (by omega) (by omega) hk h4 l1 H
    refine pk_eq (ρ 6 r) 2 (fun t => ?_) (fun t => ?_)
    · exact k52 _ (by rw [if_pos t]; rfl)
    · exact k52 _ (by rw [if_neg t])
end
end
section
/-- alarm a's fields: 0 place, 1 least, 2 shared -/
def sy_aa (A : Nat) (al : Nat → Nat → Nat) (a8 a9 a10 : Nat → Int32) : Prop :=
  ∀ a, a < A → al 0 a ≤ 2 ∧ al 1 a ≤ 4 ∧ al 2 a ≤ 3 ∧ a8 a = nI (al 0 a) ∧ a9 a = nI (al 1 a) ∧ a10 a = nI (al 2 a)
def sy_r1 (al : Nat → Nat → Nat) (P c a : Nat) : Prop := al 1 a ≤ sy_ct P c (al 0 a) + (if c / 25 % 4 = al 0 a then 1 else 0) ∧ (al 2 a = 3 ∨ al 2 a = c / 100)
def sy_rg (al : Nat → Nat → Nat) (P A c : Nat) : Prop := ∃ a, a < A ∧ sy_r1 al P c a
/-- the binomial as the class computes it -/
def sy_ch (x : Int32) : Nat → Int32
  | 0 => 1
  | i + 1 => (sy_ch x i * ((x - nI (i + 1)) + 1)) / nI (i + 1)
def sy_sz (P c : Nat) : Int32 := ((if c / 25 % 4 = 3 then 1 else nI P) * sy_ch (nI (sy_al P c)) (c / 5 % 5)) * sy_ch (nI (sy_al P c) - nI (c / 5 % 5)) (c % 5)
section
variable {P R A : Nat} {ρ al : Nat → Nat → Nat} {sh ho rc ac kn ex : Int32} {a1 a2 a3 a4 a5 a6 a7 a8 a9 a10 a11 a12 a13 a14 : Nat → Int32}
theorem sy_power {post : Int32 → Prop} (hP4 : P ≤ 4) (H : post (nI (3 ^ P))) : wpX_power post () (nI P) :=
  pk_loop (σ := Unit) (fun n i _ => wX_power_4 post (nI P) n (nI (3 ^ i)) (nI i)) (fun _ _ => True) P 0 () (by omega) trivial
    (fun n _ _ => pk_le P P (fun _ => H) (fun z => absurd z (by omega)))
    (fun n i _ hi _ hw => pk_le P i (fun z => absurd z (by omega)) (fun _ => pk_le 4 i (fun z => absurd z (by omega)) (fun _ => nm_r (show nI (3 ^ i) * 3 = nI (3 ^ (i + 1)) from by rw [Nat.pow_succ]; exact pk_mul (3 ^ i) 3) (nm_r (nI_1 i) (hw () trivial)))))
theorem sy_limit {post : Int32 → Prop} (hP4 : P ≤ 4) (H : post (nI (sy_lm P))) : wpX_limit post (sh, ho, nI P, rc, ac, kn, ex, a1, a2, a3, a4, a5, a6, a7, a8, a9, a10, a11, a12, a13, a14) := by
  unfold wpX_limit
  dsimp only
  refine sy_power hP4 ?_
  have e : (3 * nI (3 ^ P)) * (nI P + 1) = nI (sy_lm P) := by
    rw [nI_1, show (3 : Int32) * nI (3 ^ P) = nI (3 * 3 ^ P) from pk_mul 3 (3 ^ P), pk_mul]
    rfl
  rw [e]
  exact H
theorem sy_choose {post : Int32 → Prop} {x : Int32} {k : Nat} (hk : k ≤ 4) (H : post (sy_ch x k)) : wpX_choose post () x (nI k) :=
  pk_loop (σ := Unit) (fun n i _ => wX_choose_4 post x (nI k) n (sy_ch x i) (nI (i + 1))) (fun _ _ => True) k 0 () (by omega) trivial
    (fun n _ _ => pk_lt k (k + 1) (fun _ => H) (fun z => absurd z (by omega)))
    (fun n i _ hi _ hw => pk_lt k (i + 1) (fun z => absurd z (by omega)) (fun _ => pk_lt 4 (i + 1) (fun z => absurd z (by omega)) (fun _ => ⟨nI_ne0 (by omega) (by omega), nm_e (nm_r (nI_1 (i + 1)) (hw () trivial))⟩)))
theorem sy_sz32 {post : Int32 → St2 → Prop} {c : Nat} {z w : Int32} (hc : sy_cv P c) (hl : sy_ld P c sh ho a14) (hz : z = if c / 25 % 4 = 3 then 1 else nI P) (hw : w = nI (sy_al P c))
    (H : post (sy_sz P c) (sh, ho, nI P, rc, ac, kn, ex, a1, a2, a3, a4, a5, a6, a7, a8, a9, a10, a11, a12, a13, a14)) : wX_sizeOf_32 post z w sh ho (nI P) rc ac kn ex a1 a2 a3 a4 a5 a6 a7 a8 a9 a10 a11 a12 a13 a14 := by
  have m1 : a14 1 = nI (c / 5 % 5) := hl.2.2 1 (by omega)
  have m2 : a14 2 = nI (c % 5) := hl.2.2 2 (by omega)
  unfold wX_sizeOf_32
  rw [m1, m2, hz, hw]
  refine sy_choose (by omega) (nm_e (nm_e ?_))
  refine sy_choose (by omega) ?_
  exact H
theorem sy_sizeOf {post : Int32 → St2 → Prop} {c : Nat} (hP : 1 ≤ P) (hP4 : P ≤ 4) (hc : sy_cv P c)
    (H : ∀ sh' ho' a14', post (sy_sz P c) (sh', ho', nI P, rc, ac, kn, ex, a1, a2, a3, a4, a5, a6, a7, a8, a9, a10, a11, a12, a13, a14')) : wpX_sizeOf post (sh, ho, nI P, rc, ac, kn, ex, a1, a2, a3, a4, a5, a6, a7, a8, a9, a10, a11, a12, a13, a14) (nI c) := by
  unfold wpX_sizeOf
  dsimp only
  refine sy_load hP hc (fun sh' ho' a14' hl => ?_)
  dsimp only
  refine pk_eq (c / 25 % 4) 3 (fun g => ?_) (fun g => nm_r (pk_sub (b := 1) hP) ?_) hl.2.1
  · exact sy_sz32 hc hl (by rw [if_pos g]) (by unfold sy_al; rw [if_pos g]) (H _ _ _)
  · exact sy_sz32 hc hl (by rw [if_neg g]) (by unfold sy_al; rw [if_neg g]) (H _ _ _)
theorem sy_r44 {post : Int32 → St2 → Prop} {J7 : Int32 → Prop} {i w n s l t : Nat} (hi : i < 4) (h9 : a9 i = nI l) (h10 : a10 i = nI t) (hs : sh = nI s) (hl : l ≤ 4) (ht : t ≤ 3) (hs2 : s ≤ 2) (hw : w ≤ 1) (hn : n ≤ 4)
    (T : l ≤ n + w → (t = 3 ∨ t = s) → post 1 (sh, ho, nI P, rc, ac, kn, ex, a1, a2, a3, a4, a5, a6, a7, a8, a9, a10, a11, a12, a13, a14)) (F : ¬ (l ≤ n + w ∧ (t = 3 ∨ t = s)) → J7 (nI (i + 1))) : wX_rings_44 post J7 (nI i) (nI w) (nI n) sh ho (nI P) rc ac kn ex a1 a2 a3 a4 a5 a6 a7 a8 a9 a10 a11 a12 a13 a14 := by
  unfold wX_rings_44
  rw [nI_clamp (show i < 2 ^ 31 by omega), h9, h10]
  refine nm_r (nI_add n w) ⟨pk_in i 4 hi, pk_lt (n + w) l (fun g => nm_r (nI_1 i) (F (fun z => by omega))) (fun g => ⟨pk_in i 4 hi, ?_⟩)⟩
  refine pk_eq t 3 (fun g2 => T g (Or.inl g2)) (fun g2 => ⟨pk_in i 4 hi, ?_⟩)
  exact pk_eq t s (fun g3 => T g (Or.inr g3)) (fun g3 => nm_r (nI_1 i) (F (fun z => z.2.elim g2 g3))) rfl hs
theorem sy_rings {post : Int32 → St2 → Prop} {c : Nat} (hP : 1 ≤ P) (hP4 : P ≤ 4) (hA : A ≤ 4) (haa : sy_aa A al a8 a9 a10) (hc : sy_cv P c)
    (T : sy_rg al P A c → ∀ sh' ho' a14', post 1 (sh', ho', nI P, rc, nI A, kn, ex, a1, a2, a3, a4, a5, a6, a7, a8, a9, a10, a11, a12, a13, a14')) (F : ¬ sy_rg al P A c → ∀ sh' ho' a14', post 0 (sh', ho', nI P, rc, nI A, kn, ex, a1, a2, a3, a4, a5, a6, a7, a8, a9, a10, a11, a12, a13, a14')) : wpX_rings post (sh, ho, nI P, rc, nI A, kn, ex, a1, a2, a3, a4, a5, a6, a7, a8, a9, a10, a11, a12, a13, a14) (nI c) := by
  unfold wpX_rings
  dsimp only
  refine sy_load hP hc (fun sh' ho' a14' hl => ?_)
  dsimp only
  obtain ⟨l1, l2, l3⟩ := hl
  have hc3 := hc.1
  refine pk_loop (σ := Unit) (fun n i _ => wX_rings_7 post sh' ho' (nI P) rc (nI A) kn ex a1 a2 a3 a4 a5 a6 a7 a8 a9 a10 a11 a12 a13 a14' n (nI i)) (fun i _ => ∀ a, a < i → ¬ sy_r1 al P c a) A 0 () (by omega) (fun a ha => absurd ha (by omega)) ?_ ?_
  · intro n _ h
    exact pk_le A A (fun _ => F (fun z => by obtain ⟨a, z1, z2⟩ := z; exact h a z1 z2) _ _ _) (fun z => absurd z (by omega))
  · intro n i _ hi h hw
    obtain ⟨b0, b1, b2, b3, b4, b5⟩ := haa i hi
    have nx : ¬ sy_r1 al P c i → wX_rings_7 post sh' ho' (nI P) rc (nI A) kn ex a1 a2 a3 a4 a5 a6 a7 a8 a9 a10 a11 a12 a13 a14' n (nI (i + 1)) := fun z => hw () (lt_s h z)
    refine pk_le A i (fun z => absurd z (by omega)) (fun _ => ?_)
    rw [nI_clamp (show i < 2 ^ 31 by omega), b3, nI_clamp (show al 0 i < 2 ^ 31 by omega), l3 _ (show al 0 i < 3 by omega)]
    refine ⟨pk_in i 4 (by omega), pk_in (al 0 i) 3 (by omega), pk_in i 4 (by omega), ?_⟩
    unfold sy_r1 at nx
    have T' : sy_r1 al P c i → post 1 (sh', ho', nI P, rc, nI A, kn, ex, a1, a2, a3, a4, a5, a6, a7, a8, a9, a10, a11, a12, a13, a14') := fun z => T ⟨i, hi, z⟩ _ _ _
    unfold sy_r1 at T'
    refine pk_eq (c / 25 % 4) (al 0 i) (fun g => ?_) (fun g => ?_) l2
    · rw [if_pos g] at T' nx
      exact sy_r44 (w := 1) (s := c / 100) (by omega) b4 b5 l1 b1 b2 (by omega) (by omega) (sy_ct_4 hP4) (fun z1 z2 => T' ⟨z1, z2⟩) nx
    · rw [if_neg g] at T' nx
      exact sy_r44 (w := 0) (s := c / 100) (by omega) b4 b5 l1 b1 b2 (by omega) (by omega) (sy_ct_4 hP4) (fun z1 z2 => T' ⟨z1, z2⟩) nx
theorem sy_lm_b (hP4 : P ≤ 4) : sy_lm P ≤ 1215 := by
  have hP' : P = 0 ∨ P = 1 ∨ P = 2 ∨ P = 3 ∨ P = 4 := by omega
  rcases hP' with rfl | rfl | rfl | rfl | rfl <;> decide
theorem sy_classOf {post : Int32 → St2 → Prop} {code : Nat} (hP : 1 ≤ P) (hP4 : P ≤ 4) (hc : code < sy_lm P)
    (H : ∀ sh' ho' a14', sy_ld P (sy_cl P code) sh' ho' a14' → post (nI (sy_cl P code)) (sh', ho', nI P, rc, ac, kn, ex, a1, a2, a3, a4, a5, a6, a7, a8, a9, a10, a11, a12, a13, a14')) : wpX_classOf post (sh, ho, nI P, rc, ac, kn, ex, a1, a2, a3, a4, a5, a6, a7, a8, a9, a10, a11, a12, a13, a14) (nI code) := by
  have hb := sy_lm_b hP4
  have hpw := sy_pw hP4
  obtain ⟨d0, d1, d2, d3⟩ := sy_cl_d (code := code) hP hP4
  have htp := sy_tp_le hc
  have hdiv : ∀ i, code / 3 ^ i < 2 ^ 31 := fun i => Nat.lt_of_le_of_lt (Nat.div_le_self code _) (by omega)
  unfold wpX_classOf
  dsimp only
  refine sy_power hP4 ?_
  rw [show (3 : Int32) * nI (3 ^ P) = nI (3 * 3 ^ P) from pk_mul 3 (3 ^ P)]
  refine ⟨nI_ne0 (by omega) (by omega), nm_r (pk_div (by omega) (by omega) (by omega)) (nm_e (nm_e (nm_e ?_)))⟩
  refine pk_loop (σ := Int32 × (Nat → Int32)) (fun n i s => wX_classOf_43 post (nI (sy_tp P code)) sh (nI P) rc ac kn ex n (nI (code / 3 ^ i)) (nI i) s.1 a1 a2 a3 a4 a5 a6 a7 a8 a9 a10 a11 a12 a13 s.2)
    (fun i s => s.1 = nI (sy_hd code (sy_tp P code) i) ∧ ∀ j, j < 3 → s.2 j = nI (sy_cc code (sy_tp P code) j i)) P 0 (3, _) (by omega) ?_ ?_ ?_ |>.elim (fun n hn => ⟨n, by rw [Nat.pow_zero, Nat.div_one] at hn; exact hn⟩)
  · refine ⟨rfl, fun j hj => ?_⟩
    have hj' : j = 0 ∨ j = 1 ∨ j = 2 := by omega
    rcases hj' with rfl | rfl | rfl
    · show upd (upd (upd a14 0 0) 1 0) 2 0 0 = nI 0
      rw [pk_un (by omega), pk_un (by omega), pk_us]
      rfl
    · show upd (upd (upd a14 0 0) 1 0) 2 0 1 = nI 0
      rw [pk_un (by omega), pk_us]
      rfl
    · show upd (upd (upd a14 0 0) 1 0) 2 0 2 = nI 0
      rw [pk_us]
      rfl
  · intro n s h
    obtain ⟨h1, h2⟩ := h
    have e : nI (code / 3 ^ P) - nI (code / 3 ^ P) / 3 * 3 = nI (sy_sd P code) := pk_rem (d := 3) (hdiv P) (by omega) (by omega)
    refine pk_le P P (fun _ => ⟨by decide, nm_r e ?_⟩) (fun z => absurd z (by omega))
    rw [h1, h2 1 (by omega), h2 2 (by omega)]
    refine sy_numb ?_
    refine H _ _ _ ⟨by rw [d1], by rw [d2], fun i hi => ?_⟩
    rw [d3 i hi, h2 i hi]
  · intro n i s hi h hw
    obtain ⟨h1, h2⟩ := h
    have e1 : nI (code / 3 ^ i) - nI (code / 3 ^ i) / 3 * 3 = nI (sy_pl code i) := pk_rem (d := 3) (hdiv i) (by omega) (by omega)
    have e2 : nI (code / 3 ^ i) / 3 = nI (code / 3 ^ (i + 1)) := by
      rw [show nI (code / 3 ^ i) / 3 = nI (code / 3 ^ i / 3) from pk_div (d := 3) (hdiv i) (by omega) (by omega), Nat.div_div_eq_div_mul, Nat.pow_succ]
    have hp2 := sy_pl_2 code i
    refine pk_le P i (fun z => absurd z (by omega)) (fun _ => ⟨by decide, nm_r e1 ⟨by decide, nm_r e2 ?_⟩⟩)
    rw [nI_clamp (show sy_pl code i < 2 ^ 31 by omega)]
    refine pk_eq i (sy_tp P code) (fun g => nm_r (nI_1 i) ?_) (fun g => ⟨pk_in (sy_pl code i) 3 (by omega), pk_in (sy_pl code i) 3 (by omega), nm_e (nm_r (nI_1 i) ?_)⟩)
    · refine hw (nI (sy_pl code i), s.2) ⟨?_, fun j hj => ?_⟩
      · show nI (sy_pl code i) = nI (sy_hd code (sy_tp P code) (i + 1))
        unfold sy_hd
        rw [if_pos (by omega), g]
      · show s.2 j = nI (sy_cc code (sy_tp P code) j (i + 1))
        unfold sy_cc
        rw [if_neg (fun z => z.1 g), h2 j hj]
        rfl
    · refine hw (s.1, upd s.2 (sy_pl code i) (s.2 (sy_pl code i) + 1)) ⟨?_, fun j hj => ?_⟩
      · show s.1 = nI (sy_hd code (sy_tp P code) (i + 1))
        rw [h1]
        unfold sy_hd
        by_cases z : sy_tp P code < i
        · rw [if_pos z, if_pos (by omega)]
        · rw [if_neg z, if_neg (by omega)]
      · show upd s.2 (sy_pl code i) (s.2 (sy_pl code i) + 1) j = nI (sy_cc code (sy_tp P code) j (i + 1))
        unfold sy_cc
        by_cases z : sy_pl code i = j
        · rw [if_pos ⟨g, z⟩, ← z, pk_us, h2 _ (by omega), nI_1]
        · rw [if_neg (fun y => z y.2), pk_un (fun y => z y.symm), h2 j hj]
          rfl
end
end
section
def sy_up (f : Nat → Nat) (k v : Nat) : Nat → Nat := fun j => if j = k then v else f j
theorem sy_us {f : Nat → Nat} {k v : Nat} : sy_up f k v k = v := if_pos rfl
theorem sy_un {f : Nat → Nat} {k v j : Nat} (h : j ≠ k) : sy_up f k v j = f j := if_neg h
/-- what the search has found: K classes in the queue q, and for each class its depth + 1 (0: not found) -/
def sy_BF (ρ : Nat → Nat → Nat) (P R K : Nat) (q D : Nat → Nat) : Prop :=
  1 ≤ K ∧ K ≤ 300 ∧ (∀ i, i < K → sy_cv P (q i) ∧ 1 ≤ D (q i) ∧ D (q i) ≤ i + 1) ∧ (∀ i j, i ≤ j → j < K → D (q i) ≤ D (q j)) ∧ (∀ c, c < 300 → D c = 1 → c = 75) ∧
  (∀ c, c < 300 → ∀ d, D c = d + 2 → ∃ c0, sy_cv P c0 ∧ D c0 = d + 1 ∧ ∃ r b, r < R ∧ b ≤ 1 ∧ sy_en ρ P c0 r b ∧ sy_af ρ c0 r b = c) ∧ (∀ c, c < 300 → D c ≤ 301)
def sy_ar (K : Nat) (q D : Nat → Nat) (a11 a12 : Nat → Int32) : Prop := (∀ i, i < K → a12 i = nI (q i)) ∧ (∀ c, c < 300 → a11 c = nI (D c) - 1)
theorem sy_BF_add {ρ : Nat → Nat → Nat} {P R K k c : Nat} {q D : Nat → Nat} (h : sy_BF ρ P R K q D) (hK : K < 300) (hk : k < K) (hm : ∀ j, j < K → D (q j) ≤ D (q k) + 1) (hc : sy_cv P c) (h0 : D c = 0)
    (hp : ∃ r b, r < R ∧ b ≤ 1 ∧ sy_en ρ P (q k) r b ∧ sy_af ρ (q k) r b = c) :
    sy_BF ρ P R (K + 1) (sy_up q K c) (sy_up D c (D (q k) + 1)) ∧ sy_up q K c k = q k ∧ sy_up D c (D (q k) + 1) (q k) = D (q k) ∧
      (∀ j, j < K + 1 → sy_up D c (D (q k) + 1) (sy_up q K c j) ≤ D (q k) + 1) := by
  obtain ⟨b1, b2, b3, b4, b5, b6, b7⟩ := h
  have hq : ∀ i, i < K → sy_up q K c i = q i := fun i hi => sy_un (by omega)
  have hD : ∀ i, i < K → sy_up D c (D (q k) + 1) (q i) = D (q i) := by
    intro i hi
    refine sy_un (fun z => ?_)
    have := (b3 i hi).2.1
    rw [z] at this
    omega
  have hqK : sy_up q K c K = c := sy_us
  have hDK : sy_up D c (D (q k) + 1) c = D (q k) + 1 := sy_us
  have hkk := (b3 k hk)
  refine ⟨⟨by omega, by omega, ?_, ?_, ?_, ?_, ?_⟩, hq k hk, hD k hk, ?_⟩
  · intro i hi
    by_cases e : i = K
    · rw [e, hqK, hDK]
      exact ⟨hc, by omega, by omega⟩
    · rw [hq i (by omega), hD i (by omega)]
      exact b3 i (by omega)
  · intro i j hij hj
    by_cases e : j = K
    · rw [e, hqK, hDK]
      by_cases e2 : i = K
      · rw [e2, hqK, hDK]
        exact Nat.le_refl _
      · rw [hq i (by omega), hD i (by omega)]
        exact hm i (by omega)
    · rw [hq i (by omega), hD i (by omega), hq j (by omega), hD j (by omega)]
      exact b4 i j hij (by omega)
  · intro x hx hx1
    by_cases e : x = c
    · rw [e, hDK] at hx1
      omega
    · rw [sy_un e] at hx1
      exact b5 x hx hx1
  · intro x hx d hd
    by_cases e : x = c
    · rw [e, hDK] at hd
      rw [e]
      exact ⟨q k, hkk.1, by rw [hD k hk]; omega, hp⟩
    · rw [sy_un e] at hd
      obtain ⟨c0, g1, g2, g3⟩ := b6 x hx d hd
      refine ⟨c0, g1, ?_, g3⟩
      rw [sy_un (fun z => by rw [z] at g2; omega)]
      exact g2
  · intro x hx
    by_cases e : x = c
    · rw [e, hDK]
      omega
    · rw [sy_un e]
      exact b7 x hx
  · intro j hj
    by_cases e : j = K
    · rw [e, hqK, hDK]
      exact Nat.le_refl _
    · rw [hq j (by omega), hD j (by omega)]
      exact hm j (by omega)
theorem sy_ar_add {K c d : Nat} {q D : Nat → Nat} {a11 a12 : Nat → Int32} (h : sy_ar K q D a11 a12) : sy_ar (K + 1) (sy_up q K c) (sy_up D c (d + 1)) (upd a11 c (nI d)) (upd a12 K (nI c)) := by
  refine ⟨fun i hi => ?_, fun x hx => ?_⟩
  · by_cases e : i = K
    · rw [e, pk_us, sy_us]
    · rw [pk_un e, sy_un e]
      exact h.1 i (by omega)
  · by_cases e : x = c
    · rw [e, pk_us, sy_us, nI_pred]
    · rw [pk_un e, sy_un e]
      exact h.2 x hx
theorem sy_BF_0 {ρ : Nat → Nat → Nat} {P R : Nat} : sy_BF ρ P R 1 (sy_up (fun _ => 0) 0 75) (sy_up (fun _ => 0) 75 1) := by
  have h1 : ∀ c, sy_up (fun _ => 0) 75 1 c = 1 → c = 75 := by
    intro c h
    by_cases e : c = 75
    · exact e
    · rw [sy_un e] at h
      omega
  have h2 : ∀ c, sy_up (fun _ => 0) 75 1 c ≤ 1 := by
    intro c
    by_cases e : c = 75
    · rw [e, sy_us]
      omega
    · rw [sy_un e]
      omega
  have h3 : ∀ i, i < 1 → sy_up (fun _ => 0) 0 75 i = 75 := by
    intro i hi
    rw [show i = 0 by omega, sy_us]
  refine ⟨by omega, by omega, ?_, ?_, fun c _ => h1 c, ?_, ?_⟩
  · intro i hi
    rw [h3 i hi, sy_us]
    exact ⟨⟨by omega, by simp⟩, by omega, by omega⟩
  · intro i j hij hj
    rw [h3 i (by omega), h3 j (by omega)]
    exact Nat.le_refl _
  · intro c _ d hd
    have := h2 c
    omega
  · intro c _
    have := h2 c
    omega
section
variable {P R K : Nat} {ρ : Nat → Nat → Nat} {q D : Nat → Nat} {sh ho rc ac kn ex : Int32} {a1 a2 a3 a4 a5 a6 a7 a8 a9 a10 a11 a12 a13 a14 : Nat → Int32}
theorem sy_meet {post : St2 → Prop} {pp rc : Int32} {c : Nat} {d : Int32} (hc : c < 300) (hK : K ≤ 300) (har : a11 c = nI (D c) - 1) (hD : D c ≤ 301)
    (Hk : ¬ (K < 300 ∧ D c = 0) → post (sh, ho, pp, rc, ac, nI K, ex, a1, a2, a3, a4, a5, a6, a7, a8, a9, a10, a11, a12, a13, a14)) (Ha : K < 300 → D c = 0 → post (sh, ho, pp, rc, ac, nI (K + 1), ex, a1, a2, a3, a4, a5, a6, a7, a8, a9, a10, upd a11 c d, upd a12 K (nI c), a13, a14)) : wpX_meet post (sh, ho, pp, rc, ac, nI K, ex, a1, a2, a3, a4, a5, a6, a7, a8, a9, a10, a11, a12, a13, a14) (nI c) d := by
  unfold wpX_meet
  dsimp only
  rw [nI_clamp (show c < 2 ^ 31 by omega), har]
  refine br_f (nI_pos (by omega)) (pk_le 300 c (fun z => absurd z (by omega)) (fun _ => pk_le 300 K (fun z => Hk (fun y => by omega)) (fun hK' => ⟨pk_in c 300 hc, ?_⟩)))
  by_cases e : D c = 0
  · refine br_f ?_ ⟨pk_in c 300 hc, nm_e ⟨pk_in K 300 hK', nm_e (nm_r (nI_1 K) ?_)⟩⟩
    · rw [e]
      decide
    · rw [nI_clamp (show K < 2 ^ 31 by omega)]
      exact Ha hK' e
  · obtain ⟨m, hm⟩ : ∃ m, D c = m + 1 := ⟨D c - 1, by omega⟩
    refine br_t ?_ (Hk (fun y => e y.2))
    rw [hm, nI_pred]
    exact nI_pos' (by omega)
theorem sy_x29 {post : St2 → Prop} {J7 : Int32 → Int32 → Int32 → Int32 → Int32 → Int32 → Int32 → Int32 → (Nat → Int32) → (Nat → Int32) → (Nat → Int32) → (Nat → Int32) → (Nat → Int32) → (Nat → Int32) → (Nat → Int32) → (Nat → Int32) → (Nat → Int32) → (Nat → Int32) → (Nat → Int32) → (Nat → Int32) → (Nat → Int32) → (Nat → Int32) → Prop}
    {c i b : Nat} (hP : 1 ≤ P) (hP4 : P ≤ 4) (hR : R ≤ 12) (hra : sy_ra R ρ a1 a2 a3 a4 a5 a6 a7) (hi : i < 2 * R) (hb : b ≤ 1) (hc : sy_cv P c) (hl : sy_ld P c sh ho a14) (hK : K ≤ 300) (har : sy_ar K q D a11 a12) (hD : ∀ c, c < 300 → D c ≤ 301)
    (Hk : J7 (nI (i + 1)) sh ho (nI P) (nI R) ac (nI K) ex a1 a2 a3 a4 a5 a6 a7 a8 a9 a10 a11 a12 a13 a14)
    (Ha : K < 300 → sy_en ρ P c (i / 2) b → D (sy_af ρ c (i / 2) b) = 0 → J7 (nI (i + 1)) sh ho (nI P) (nI R) ac (nI (K + 1)) ex a1 a2 a3 a4 a5 a6 a7 a8 a9 a10 (upd a11 (sy_af ρ c (i / 2) b) (nI (D c))) (upd a12 K (nI (sy_af ρ c (i / 2) b))) a13 a14) :
    wX_expand_29 post J7 (nI c) (nI i) (nI b) sh ho (nI P) (nI R) ac (nI K) ex a1 a2 a3 a4 a5 a6 a7 a8 a9 a10 a11 a12 a13 a14 := by
  have hc3 := hc.1
  have e1 : nI i >>> ((1 : Int32) &&& 31) = nI (i / 2) := pk_shrN (by omega) _ 1 (by decide)
  unfold wX_expand_29
  rw [e1]
  refine sy_enabled hP4 hR hra hb (by omega) hc3 hl (fun he => br_f (by decide) ?_) (fun he => br_t rfl (nm_r (nI_1 i) Hk))
  obtain ⟨v0, _⟩ := sy_af_v hP hP4 hb (hra (i / 2) (by omega)).1 hc he
  refine sy_after hP hP4 hR hra hb (by omega) hc hl he ⟨pk_in c 300 hc3, ?_⟩
  rw [nI_clamp (show c < 2 ^ 31 by omega), har.2 c hc3, Int32.sub_add_cancel]
  exact sy_meet v0.1 hK (har.2 _ v0.1) (hD _ v0.1) (fun _ => nm_r (nI_1 i) Hk) (fun h1 h2 => nm_r (nI_1 i) (Ha h1 he h2))
theorem sy_expand {post : St2 → Prop} {k : Nat} (hP : 1 ≤ P) (hP4 : P ≤ 4) (hR : R ≤ 12) (hra : sy_ra R ρ a1 a2 a3 a4 a5 a6 a7) (hbf : sy_BF ρ P R K q D) (har : sy_ar K q D a11 a12) (hk : k < K) (hm : ∀ j, j < K → D (q j) ≤ D (q k) + 1)
    (H : ∀ sh' ho' a14' K' q' D' a11' a12', sy_BF ρ P R K' q' D' → sy_ar K' q' D' a11' a12' → k < K' → (∀ j, j < K' → D' (q' j) ≤ D' (q' k) + 1) → post (sh', ho', nI P, nI R, ac, nI K', ex, a1, a2, a3, a4, a5, a6, a7, a8, a9, a10, a11', a12', a13, a14')) :
    wpX_expand post (sh, ho, nI P, nI R, ac, nI K, ex, a1, a2, a3, a4, a5, a6, a7, a8, a9, a10, a11, a12, a13, a14) (nI (q k)) := by
  have hck := (hbf.2.2.1 k hk).1
  unfold wpX_expand
  dsimp only
  refine sy_load hP hck (fun sh' ho' a14' hl => ?_)
  dsimp only
  refine pk_loop (σ := Int32 × (Nat → Int32) × (Nat → Int32)) (fun n i s => wX_expand_7 post (nI (q k)) n (nI i) sh' ho' (nI P) (nI R) ac s.1 ex a1 a2 a3 a4 a5 a6 a7 a8 a9 a10 s.2.1 s.2.2 a13 a14')
    (fun _ s => ∃ K' q' D', s.1 = nI K' ∧ sy_BF ρ P R K' q' D' ∧ sy_ar K' q' D' s.2.1 s.2.2 ∧ k < K' ∧ (∀ j, j < K' → D' (q' j) ≤ D' (q' k) + 1) ∧ q' k = q k) (2 * R) 0 (nI K, a11, a12) (by omega) ⟨K, q, D, rfl, hbf, har, hk, hm, rfl⟩ ?_ ?_
  · intro n s h
    obtain ⟨s1, s2, s3⟩ := s
    obtain ⟨K', q', D', g0, g1, g2, g3, g4, g5⟩ := h
    dsimp only at g0 g2
    subst g0
    exact pk_le (2 * R) (2 * R) (fun _ => H _ _ _ K' q' D' _ _ g1 g2 g3 g4) (fun z => absurd z (by omega)) (pk_mul 2 R)
  · intro n i s hi h hw
    obtain ⟨s1, s2, s3⟩ := s
    obtain ⟨K', q', D', g0, g1, g2, g3, g4, g5⟩ := h
    dsimp only at g0 g2
    subst g0
    have st : ∀ b : Nat, b ≤ 1 → wX_expand_29 post (wX_expand_7 post (nI (q k)) n) (nI (q k)) (nI i) (nI b) sh' ho' (nI P) (nI R) ac (nI K') ex a1 a2 a3 a4 a5 a6 a7 a8 a9 a10 s2 s3 a13 a14' := by
      intro b hb
      refine sy_x29 (q := q') (D := D') hP hP4 hR hra hi hb hck hl g1.2.1 g2 g1.2.2.2.2.2.2 (hw (nI K', s2, s3) ⟨K', q', D', rfl, g1, g2, g3, g4, g5⟩) (fun z1 z2 z3 => ?_)
      obtain ⟨v0, _⟩ := sy_af_v hP hP4 hb (hra (i / 2) (by omega)).1 hck z2
      obtain ⟨w1, w2, w3, w4⟩ := sy_BF_add (c := sy_af ρ (q k) (i / 2) b) g1 z1 g3 g4 v0 z3 ⟨i / 2, b, by omega, hb, by rw [g5]; exact z2, by rw [g5]⟩
      refine hw (nI (K' + 1), _, _) ⟨K' + 1, _, _, rfl, w1, ?_, by omega, ?_, by rw [w2, g5]⟩
      · rw [g5]
        exact sy_ar_add g2
      · intro j hj
        rw [w2, w3]
        exact w4 j hj
    have e1 : nI i &&& 1 = nI (i % 2) := pk_andN (by omega) 1 (by decide)
    refine pk_le (2 * R) i (fun z => absurd z (by omega)) (fun _ => ?_) (pk_mul 2 R)
    exact pk_eq (i % 2) 1 (fun _ => st 1 (by omega)) (fun _ => st 0 (by omega)) e1
theorem sy_x51 {post : St2 → Prop} {K : Nat} (hP : 1 ≤ P) (hP4 : P ≤ 4) (hR : R ≤ 12) (hra : sy_ra R ρ a1 a2 a3 a4 a5 a6 a7) (hbf : sy_BF ρ P R K q D) (har : sy_ar K q D a11 a12) (hm : ∀ j, j < K → D (q j) ≤ D (q 0) + 1)
    (H : ∀ sh' ho' a14' K' q' D' a11' a12', sy_BF ρ P R K' q' D' → sy_ar K' q' D' a11' a12' → post (sh', ho', nI P, nI R, ac, nI K', 1, a1, a2, a3, a4, a5, a6, a7, a8, a9, a10, a11', a12', a13, a14')) :
    ∃ n, wX_explore_51 post n 0 sh ho (nI P) (nI R) ac (nI K) ex a1 a2 a3 a4 a5 a6 a7 a8 a9 a10 a11 a12 a13 a14 := by
  refine pk_loop (σ := Int32 × Int32 × Int32 × (Nat → Int32) × (Nat → Int32) × (Nat → Int32)) (fun n i s => wX_explore_51 post n (nI i) s.1 s.2.1 (nI P) (nI R) ac s.2.2.1 ex a1 a2 a3 a4 a5 a6 a7 a8 a9 a10 s.2.2.2.1 s.2.2.2.2.1 a13 s.2.2.2.2.2)
    (fun i s => ∃ K' q' D', s.2.2.1 = nI K' ∧ sy_BF ρ P R K' q' D' ∧ sy_ar K' q' D' s.2.2.2.1 s.2.2.2.2.1 ∧ (i < K' → ∀ j, j < K' → D' (q' j) ≤ D' (q' i) + 1)) 300 0 (sh, ho, nI K, a11, a12, a14) (by omega) ⟨K, q, D, rfl, hbf, har, fun _ => hm⟩ ?_ ?_
  · intro n s h
    obtain ⟨s1, s2, s3, s4, s5, s6⟩ := s
    obtain ⟨K', q', D', g0, g1, g2, g3⟩ := h
    dsimp only at g0 g2
    subst g0
    exact pk_le 300 300 (fun _ => H _ _ _ K' q' D' _ _ g1 g2) (fun z => absurd z (by omega))
  · intro n i s hi h hw
    obtain ⟨s1, s2, s3, s4, s5, s6⟩ := s
    obtain ⟨K', q', D', g0, g1, g2, g3⟩ := h
    dsimp only at g0 g2
    subst g0
    have hK' := g1.2.1
    refine pk_le 300 i (fun z => absurd z (by omega)) (fun _ => pk_le K' i (fun _ => H _ _ _ K' q' D' _ _ g1 g2) (fun hik => ⟨pk_in i 300 hi, ?_⟩))
    dsimp only
    rw [nI_clamp (show i < 2 ^ 31 by omega), g2.1 i hik]
    refine sy_expand (q := q') (D := D') hP hP4 hR hra g1 g2 hik (g3 hik) (fun sh' ho' a14' K2 q2 D2 a11' a12' w1 w2 w3 w4 => nm_r (nI_1 i) ?_)
    refine hw (sh', ho', nI K2, a11', a12', a14') ⟨K2, q2, D2, rfl, w1, w2, fun z j hj => ?_⟩
    exact Nat.le_trans (w4 j hj) (Nat.succ_le_succ (w1.2.2.2.1 i (i + 1) (by omega) z))
theorem sy_explore {post : St2 → Prop} {kn : Int32} (hP : 1 ≤ P) (hP4 : P ≤ 4) (hR : R ≤ 12) (hra : sy_ra R ρ a1 a2 a3 a4 a5 a6 a7)
    (H : ∀ sh' ho' a14' K' q' D' a11' a12', sy_BF ρ P R K' q' D' → sy_ar K' q' D' a11' a12' → post (sh', ho', nI P, nI R, ac, nI K', 1, a1, a2, a3, a4, a5, a6, a7, a8, a9, a10, a11', a12', a13, a14')) :
    wpX_explore post (sh, ho, nI P, nI R, ac, kn, 0, a1, a2, a3, a4, a5, a6, a7, a8, a9, a10, a11, a12, a13, a14) := by
  unfold wpX_explore
  dsimp only
  refine br_t rfl ?_
  refine pk_loop (σ := Nat → Int32) (fun n i s => wX_explore_10 post sh ho (nI P) (nI R) ac kn 0 n (nI i) a1 a2 a3 a4 a5 a6 a7 a8 a9 a10 s a12 a13 a14) (fun i s => ∀ c, c < i → s c = -1) 300 0 a11 (by omega) (fun c hc => absurd hc (by omega)) ?_ ?_
  · intro n s h
    refine pk_le 300 300 (fun _ => ?_) (fun z => absurd z (by omega))
    refine sy_numb (s := 0) (h := 3) (x := 0) (y := 0) ?_
    refine sy_meet (K := 0) (c := 75) (D := fun _ => 0) (by omega) (by omega) (h 75 (by omega)) (by omega) (fun z => absurd ⟨by omega, rfl⟩ z) (fun _ _ => ?_)
    dsimp only
    refine sy_x51 (K := 1) (q := sy_up (fun _ => 0) 0 75) (D := sy_up (fun _ => 0) 75 1) hP hP4 hR hra sy_BF_0 ?_ ?_ H
    · exact sy_ar_add (K := 0) (c := 75) (d := 0) ⟨fun i hi => absurd hi (by omega), fun c hc => h c hc⟩
    · intro j hj
      rw [show j = 0 by omega]
      omega
  · intro n i s hi h hw
    refine pk_le 300 i (fun z => absurd z (by omega)) (fun _ => ⟨pk_in i 300 hi, nm_e (nm_r (nI_1 i) (hw _ (fun c hc => ?_)))⟩)
    rw [nI_clamp (show i < 2 ^ 31 by omega)]
    by_cases e : c = i
    · rw [e, pk_us]
    · rw [pk_un e]
      exact h c (by omega)
end
end
section
def sy_sm (f : Nat → Int32) : Nat → Int32
  | 0 => 0
  | n + 1 => sy_sm f n + f n
theorem sy_sm_c {f g : Nat → Int32} : ∀ n, (∀ j, j < n → f j = g j) → sy_sm f n = sy_sm g n := by
  intro n
  induction n with
  | zero => exact fun _ => rfl
  | succ n ih =>
    intro h
    unfold sy_sm
    rw [ih (fun j hj => h j (by omega)), h n (by omega)]
theorem sy_sm_0 : ∀ n, sy_sm (fun _ => 0) n = 0 := by
  intro n
  induction n with
  | zero => rfl
  | succ n ih =>
    unfold sy_sm
    rw [ih]
    rfl
theorem sy_sm_a {f g : Nat → Int32} : ∀ n, sy_sm (fun k => f k + g k) n = sy_sm f n + sy_sm g n := by
  intro n
  induction n with
  | zero => rfl
  | succ n ih =>
    unfold sy_sm
    rw [ih]
    grind
theorem sy_sm_1 {d : Nat} {z : Int32} : ∀ m, sy_sm (fun k => if d = k + 1 then z else 0) m = if 1 ≤ d ∧ d ≤ m then z else 0 := by
  intro m
  induction m with
  | zero =>
    rw [if_neg (by omega)]
    rfl
  | succ m ih =>
    unfold sy_sm
    rw [ih]
    by_cases e : d = m + 1
    · rw [if_neg (by omega), if_pos e, if_pos (by omega)]
      grind
    · rw [if_neg e]
      by_cases e2 : 1 ≤ d ∧ d ≤ m
      · rw [if_pos e2, if_pos (by omega)]
        grind
      · rw [if_neg e2, if_neg (by omega)]
        rfl
/-- the layers sum up to the whole -/
theorem sy_lay {D : Nat → Nat} {z : Nat → Int32} {m : Nat} : ∀ n, (∀ j, j < n → 1 ≤ D j ∧ D j ≤ m) → sy_sm (fun k => sy_sm (fun j => if D j = k + 1 then z j else 0) n) m = sy_sm z n := by
  intro n
  induction n with
  | zero =>
    intro _
    exact sy_sm_0 m
  | succ n ih =>
    intro h
    have e : sy_sm (fun k => sy_sm (fun j => if D j = k + 1 then z j else 0) (n + 1)) m = sy_sm (fun k => sy_sm (fun j => if D j = k + 1 then z j else 0) n + (if D n = k + 1 then z n else 0)) m := rfl
    rw [e, sy_sm_a, ih (fun j hj => h j (by omega)), sy_sm_1, if_pos (h n (by omega))]
    rfl
theorem sy_deq {D d : Nat} (hD : D ≤ 400) (hd : d ≤ 400) : nI D - 1 = nI d ↔ D = d + 1 := by
  by_cases e : D = 0
  · rw [e]
    constructor
    · intro h
      exfalso
      have h1 : ¬ nI d < 0 := nI_pos (by omega)
      rw [← h] at h1
      exact h1 (by decide)
    · intro h
      omega
  · obtain ⟨m, rfl⟩ : ∃ m, D = m + 1 := ⟨D - 1, by omega⟩
    rw [nI_pred, nI_eq (by omega) (by omega)]
    omega
/-- d is the depth of the first class in the queue that rings -/
def sy_V (al : Nat → Nat → Nat) (P A K : Nat) (q D : Nat → Nat) (d : Nat) : Prop := ∃ k, k < K ∧ sy_rg al P A (q k) ∧ (∀ j, j < k → ¬ sy_rg al P A (q j)) ∧ D (q k) = d + 1
theorem sy_V_u {al : Nat → Nat → Nat} {P A K : Nat} {q D : Nat → Nat} {d e : Nat} (h : sy_V al P A K q D d) (h' : sy_V al P A K q D e) : d = e := by
  obtain ⟨k, h1, h2, h3, h4⟩ := h
  obtain ⟨l, g1, g2, g3, g4⟩ := h'
  have e : k = l := by
    rcases Nat.lt_trichotomy k l with z | z | z
    · exact absurd h2 (g3 k z)
    · exact z
    · exact absurd g2 (h3 l z)
  subst e
  omega
def sy_FB (al : Nat → Nat → Nat) (P A : Nat) (D : Nat → Nat) (d code : Nat) : Prop :=
  code < sy_lm P ∧ (D (sy_cl P code) = d + 1 ∧ sy_rg al P A (sy_cl P code)) ∧ ∀ j, j < code → ¬ (D (sy_cl P j) = d + 1 ∧ sy_rg al P A (sy_cl P j))
def sy_FF (ρ : Nat → Nat → Nat) (P R : Nat) (D : Nat → Nat) (d next code : Nat) : Prop :=
  code < sy_lm P ∧ (D (sy_cl P code) = d + 1 ∧ sy_le ρ P R code next) ∧ ∀ j, j < code → ¬ (D (sy_cl P j) = d + 1 ∧ sy_le ρ P R j next)
section
variable {P R A K : Nat} {ρ al : Nat → Nat → Nat} {q D : Nat → Nat} {sh ho : Int32} {a1 a2 a3 a4 a5 a6 a7 a8 a9 a10 a11 a12 a13 a14 : Nat → Int32}
theorem sy_viol6 {post : Int32 → St2 → Prop} (hP : 1 ≤ P) (hP4 : P ≤ 4) (hA : A ≤ 4) (haa : sy_aa A al a8 a9 a10) (hbf : sy_BF ρ P R K q D) (har : sy_ar K q D a11 a12)
    (T : ∀ d, sy_V al P A K q D d → ∀ sh' ho' a14', post (nI d) (sh', ho', nI P, nI R, nI A, nI K, 1, a1, a2, a3, a4, a5, a6, a7, a8, a9, a10, a11, a12, a13, a14')) (F : (∀ j, j < K → ¬ sy_rg al P A (q j)) → ∀ sh' ho' a14', post (-1) (sh', ho', nI P, nI R, nI A, nI K, 1, a1, a2, a3, a4, a5, a6, a7, a8, a9, a10, a11, a12, a13, a14')) :
    ∃ n, wX_violation_6 post n 0 sh ho (nI P) (nI R) (nI A) (nI K) 1 a1 a2 a3 a4 a5 a6 a7 a8 a9 a10 a11 a12 a13 a14 := by
  have hK := hbf.2.1
  refine pk_loop (σ := Int32 × Int32 × (Nat → Int32)) (fun n i s => wX_violation_6 post n (nI i) s.1 s.2.1 (nI P) (nI R) (nI A) (nI K) 1 a1 a2 a3 a4 a5 a6 a7 a8 a9 a10 a11 a12 a13 s.2.2) (fun i _ => ∀ j, j < i → ¬ sy_rg al P A (q j)) K 0 (sh, ho, a14) (by omega) (fun j hj => absurd hj (by omega)) ?_ ?_
  · intro n s h
    exact pk_le K K (fun _ => F h _ _ _) (fun z => absurd z (by omega))
  · intro n i s hi h hw
    obtain ⟨b1, b2, b3⟩ := hbf.2.2.1 i hi
    have b0 := b1.1
    refine pk_le K i (fun z => absurd z (by omega)) (fun _ => ⟨pk_in i 300 (by omega), ?_⟩)
    rw [nI_clamp (show i < 2 ^ 31 by omega), har.1 i hi]
    refine sy_rings hP hP4 hA haa b1 (fun g sh' ho' a14' => br_f (by decide) ?_) (fun g sh' ho' a14' => br_t rfl (nm_r (nI_1 i) (hw (sh', ho', a14') (lt_s h g))))
    obtain ⟨m, hm⟩ : ∃ m, D (q i) = m + 1 := ⟨D (q i) - 1, by omega⟩
    rw [har.1 i hi, nI_clamp (show q i < 2 ^ 31 by omega), har.2 (q i) b0, hm, nI_pred]
    exact ⟨pk_in i 300 (by omega), pk_in (q i) 300 b0, T m ⟨i, hi, g, h, hm⟩ _ _ _⟩
theorem sy_viol {post : Int32 → St2 → Prop} (hP : 1 ≤ P) (hP4 : P ≤ 4) (hA : A ≤ 4) (haa : sy_aa A al a8 a9 a10) (hbf : sy_BF ρ P R K q D) (har : sy_ar K q D a11 a12)
    (T : ∀ d, sy_V al P A K q D d → ∀ sh' ho' a14', post (nI d) (sh', ho', nI P, nI R, nI A, nI K, 1, a1, a2, a3, a4, a5, a6, a7, a8, a9, a10, a11, a12, a13, a14')) (F : (∀ j, j < K → ¬ sy_rg al P A (q j)) → ∀ sh' ho' a14', post (-1) (sh', ho', nI P, nI R, nI A, nI K, 1, a1, a2, a3, a4, a5, a6, a7, a8, a9, a10, a11, a12, a13, a14')) :
    wpX_violation post (sh, ho, nI P, nI R, nI A, nI K, 1, a1, a2, a3, a4, a5, a6, a7, a8, a9, a10, a11, a12, a13, a14) := by
  unfold wpX_violation
  dsimp only
  exact br_f (by decide) (sy_viol6 hP hP4 hA haa hbf har T F)
theorem sy_viol0 {post : Int32 → St2 → Prop} {kn : Int32} (hP : 1 ≤ P) (hP4 : P ≤ 4) (hR : R ≤ 12) (hra : sy_ra R ρ a1 a2 a3 a4 a5 a6 a7) (hA : A ≤ 4) (haa : sy_aa A al a8 a9 a10)
    (H : ∀ K q D a11' a12', sy_BF ρ P R K q D → sy_ar K q D a11' a12' → (∀ d, sy_V al P A K q D d → ∀ sh' ho' a14', post (nI d) (sh', ho', nI P, nI R, nI A, nI K, 1, a1, a2, a3, a4, a5, a6, a7, a8, a9, a10, a11', a12', a13, a14')) ∧ ((∀ j, j < K → ¬ sy_rg al P A (q j)) → ∀ sh' ho' a14', post (-1) (sh', ho', nI P, nI R, nI A, nI K, 1, a1, a2, a3, a4, a5, a6, a7, a8, a9, a10, a11', a12', a13, a14'))) :
    wpX_violation post (sh, ho, nI P, nI R, nI A, kn, 0, a1, a2, a3, a4, a5, a6, a7, a8, a9, a10, a11, a12, a13, a14) := by
  unfold wpX_violation
  dsimp only
  refine sy_explore hP hP4 hR hra (fun sh' ho' a14' K' q' D' a11' a12' g1 g2 => ?_)
  obtain ⟨T, F⟩ := H K' q' D' a11' a12' g1 g2
  exact sy_viol6 hP hP4 hA haa g1 g2 T F
theorem sy_radius {post : Int32 → St2 → Prop} (hbf : sy_BF ρ P R K q D) (har : sy_ar K q D a11 a12) (H : ∀ r, D (q (K - 1)) = r + 1 → post (nI r) (sh, ho, nI P, nI R, nI A, nI K, 1, a1, a2, a3, a4, a5, a6, a7, a8, a9, a10, a11, a12, a13, a14)) : wpX_radius post (sh, ho, nI P, nI R, nI A, nI K, 1, a1, a2, a3, a4, a5, a6, a7, a8, a9, a10, a11, a12, a13, a14) := by
  have hK1 := hbf.1
  have hK := hbf.2.1
  obtain ⟨b1, b2, b3⟩ := hbf.2.2.1 (K - 1) (by omega)
  have b0 := b1.1
  obtain ⟨m, hm⟩ : ∃ m, D (q (K - 1)) = m + 1 := ⟨D (q (K - 1)) - 1, by omega⟩
  unfold wpX_radius
  dsimp only
  refine br_f (by decide) ?_
  dsimp only
  rw [show nI K - 1 = nI (K - 1) from pk_sub (b := 1) hK1, nI_clamp (show K - 1 < 2 ^ 31 by omega), har.1 _ (show K - 1 < K by omega), nI_clamp (show q (K - 1) < 2 ^ 31 by omega), har.2 _ b0, hm, nI_pred]
  exact ⟨pk_in (K - 1) 300 (by omega), pk_in _ 300 b0, H m hm⟩
theorem sy_reach {post : Int32 → St2 → Prop} (hP : 1 ≤ P) (hP4 : P ≤ 4) (hbf : sy_BF ρ P R K q D) (har : sy_ar K q D a11 a12)
    (H : ∀ sh' ho' a14', post (sy_sm (fun j => sy_sz P (q j)) K) (sh', ho', nI P, nI R, nI A, nI K, 1, a1, a2, a3, a4, a5, a6, a7, a8, a9, a10, a11, a12, a13, a14')) : wpX_reachable post (sh, ho, nI P, nI R, nI A, nI K, 1, a1, a2, a3, a4, a5, a6, a7, a8, a9, a10, a11, a12, a13, a14) := by
  have hK := hbf.2.1
  unfold wpX_reachable
  dsimp only
  refine br_f (by decide) ?_
  dsimp only
  refine pk_loop (σ := Int32 × Int32 × (Nat → Int32)) (fun n i s => wX_reachable_8 post n (sy_sm (fun j => sy_sz P (q j)) i) (nI i) s.1 s.2.1 (nI P) (nI R) (nI A) (nI K) 1 a1 a2 a3 a4 a5 a6 a7 a8 a9 a10 a11 a12 a13 s.2.2) (fun _ _ => True) K 0 (sh, ho, a14) (by omega) trivial ?_ ?_
  · intro n s h
    exact pk_le K K (fun _ => H _ _ _) (fun z => absurd z (by omega))
  · intro n i s hi h hw
    obtain ⟨b1, b2, b3⟩ := hbf.2.2.1 i hi
    refine pk_le K i (fun z => absurd z (by omega)) (fun _ => ⟨pk_in i 300 (by omega), ?_⟩)
    rw [nI_clamp (show i < 2 ^ 31 by omega), har.1 i hi]
    exact sy_sizeOf hP hP4 b1 (fun sh' ho' a14' => nm_e (nm_r (nI_1 i) (hw (sh', ho', a14') trivial)))
theorem sy_layer {post : Int32 → St2 → Prop} {d : Nat} (hP : 1 ≤ P) (hP4 : P ≤ 4) (hd : d ≤ 400) (hbf : sy_BF ρ P R K q D) (har : sy_ar K q D a11 a12)
    (H : ∀ sh' ho' a14', post (sy_sm (fun j => if D (q j) = d + 1 then sy_sz P (q j) else 0) K) (sh', ho', nI P, nI R, nI A, nI K, 1, a1, a2, a3, a4, a5, a6, a7, a8, a9, a10, a11, a12, a13, a14')) : wpX_layer post (sh, ho, nI P, nI R, nI A, nI K, 1, a1, a2, a3, a4, a5, a6, a7, a8, a9, a10, a11, a12, a13, a14) (nI d) := by
  have hK := hbf.2.1
  unfold wpX_layer
  dsimp only
  refine br_f (by decide) ?_
  dsimp only
  refine pk_loop (σ := Int32 × Int32 × (Nat → Int32)) (fun n i s => wX_layer_8 post (nI d) n (sy_sm (fun j => if D (q j) = d + 1 then sy_sz P (q j) else 0) i) (nI i) s.1 s.2.1 (nI P) (nI R) (nI A) (nI K) 1 a1 a2 a3 a4 a5 a6 a7 a8 a9 a10 a11 a12 a13 s.2.2) (fun _ _ => True) K 0 (sh, ho, a14) (by omega) trivial ?_ ?_
  · intro n s h
    exact pk_le K K (fun _ => H _ _ _) (fun z => absurd z (by omega))
  · intro n i s hi h hw
    obtain ⟨b1, b2, b3⟩ := hbf.2.2.1 i hi
    have b0 := b1.1
    refine pk_le K i (fun z => absurd z (by omega)) (fun _ => ⟨pk_in i 300 (by omega), ?_⟩)
    rw [nI_clamp (show i < 2 ^ 31 by omega), har.1 i hi, nI_clamp (show q i < 2 ^ 31 by omega), har.2 _ b0]
    refine ⟨pk_in (q i) 300 b0, ek_if (sy_deq (by omega) hd) (fun g => ⟨pk_in i 300 (by omega), ?_⟩) (fun g => nm_r (nI_1 i) ?_)⟩
    · refine sy_sizeOf hP hP4 b1 (fun sh' ho' a14' => nm_r ?_ (nm_r (nI_1 i) (hw (sh', ho', a14') trivial)))
      show _ = sy_sm _ i + (if D (q i) = d + 1 then sy_sz P (q i) else 0)
      rw [if_pos g]
    · have e : sy_sm (fun j => if D (q j) = d + 1 then sy_sz P (q j) else 0) (i + 1) = sy_sm (fun j => if D (q j) = d + 1 then sy_sz P (q j) else 0) i := by
        show sy_sm _ i + (if D (q i) = d + 1 then sy_sz P (q i) else 0) = _
        rw [if_neg g]
        grind
      have w := hw s trivial
      rw [e] at w
      exact w
theorem sy_firstBad {post : Int32 → St2 → Prop} {d code : Nat} (hP : 1 ≤ P) (hP4 : P ≤ 4) (hA : A ≤ 4) (haa : sy_aa A al a8 a9 a10) (hd : d ≤ 400) (hbf : sy_BF ρ P R K q D) (har : sy_ar K q D a11 a12)
    (h : sy_FB al P A D d code) (H : ∀ sh' ho' a14', post (nI code) (sh', ho', nI P, nI R, nI A, nI K, 1, a1, a2, a3, a4, a5, a6, a7, a8, a9, a10, a11, a12, a13, a14')) : wpX_firstBad post (sh, ho, nI P, nI R, nI A, nI K, 1, a1, a2, a3, a4, a5, a6, a7, a8, a9, a10, a11, a12, a13, a14) (nI d) := by
  obtain ⟨h1, h2, h3⟩ := h
  have hlm := sy_lm_b hP4
  have hD := hbf.2.2.2.2.2.2
  unfold wpX_firstBad
  dsimp only
  refine sy_limit hP4 ?_
  refine pk_loop (σ := Int32 × Int32 × (Nat → Int32)) (fun n i s => wX_firstBad_7 post (nI d) (nI (sy_lm P)) n (nI i) s.1 s.2.1 (nI P) (nI R) (nI A) (nI K) 1 a1 a2 a3 a4 a5 a6 a7 a8 a9 a10 a11 a12 a13 s.2.2) (fun _ _ => True) code 0 (sh, ho, a14) (by omega) trivial ?_ ?_
  · intro n s _
    obtain ⟨d0, _⟩ := sy_cl_d (code := code) hP hP4
    have b0 := d0.1
    refine pk_le (sy_lm P) code (fun z => absurd z (by omega)) (fun _ => sy_classOf hP hP4 h1 (fun sh' ho' a14' hl => ⟨pk_in _ 300 b0, ?_⟩))
    dsimp only
    rw [nI_clamp (show sy_cl P code < 2 ^ 31 by omega), har.2 _ b0]
    refine br_t ((sy_deq (by have := hD _ b0; omega) hd).mpr h2.1) ?_
    exact sy_rings hP hP4 hA haa d0 (fun g _ _ _ => br_f (by decide) (H _ _ _)) (fun g => absurd h2.2 g)
  · intro n i s hi _ hw
    obtain ⟨d0, _⟩ := sy_cl_d (code := i) hP hP4
    have b0 := d0.1
    have h3i := h3 i hi
    refine pk_le (sy_lm P) i (fun z => absurd z (by omega)) (fun _ => sy_classOf hP hP4 (show i < sy_lm P by omega) (fun sh' ho' a14' hl => ⟨pk_in _ 300 b0, ?_⟩))
    dsimp only
    rw [nI_clamp (show sy_cl P i < 2 ^ 31 by omega), har.2 _ b0]
    refine ek_if (sy_deq (by have := hD _ b0; omega) hd) (fun g => ?_) (fun g => nm_r (nI_1 i) (hw (sh', ho', a14') trivial))
    exact sy_rings hP hP4 hA haa d0 (fun g2 => absurd ⟨g, g2⟩ h3i) (fun g2 sh2 ho2 a2' => br_t rfl (nm_r (nI_1 i) (hw (sh2, ho2, a2') trivial)))
end
end
section
section
variable {P R A K : Nat} {ρ al : Nat → Nat → Nat} {q D : Nat → Nat} {sh ho : Int32} {a1 a2 a3 a4 a5 a6 a7 a8 a9 a10 a11 a12 a13 a14 : Nat → Int32}
theorem sy_l142 {post : Int32 → St2 → Prop} {J24 : Int32 → Prop} {J39 : Int32 → Int32 → Prop} {code next r p : Nat} {x1 z0 z1 : Int32} (hr : r < 12) (hk : sy_rk ρ r) (h7 : a7 r = nI (ρ 6 r))
    (hz1 : z1 = nI code + (nI (ρ 1 r) - nI (ρ 0 r)) * nI (3 ^ p)) (hz0 : z0 = if ρ 3 r = 3 then 0 else (nI (ρ 3 r) - nI (sy_sd P code)) * nI (3 ^ P))
    (T : sy_mk ρ P code r p = nI next → post 1 (sh, ho, nI P, nI R, nI A, nI K, 1, a1, a2, a3, a4, a5, a6, a7, a8, a9, a10, a11, a12, a13, a14)) (F : ¬ sy_mk ρ P code r p = nI next → J39 (nI (3 ^ (p + 1))) (nI (p + 1))) :
    wX_leads_142 post J24 J39 x1 (nI next) (nI (3 ^ P)) (nI (sy_tp P code)) (nI r) (nI (3 ^ p)) (nI p) z0 z1 sh ho (nI P) (nI R) (nI A) (nI K) 1 a1 a2 a3 a4 a5 a6 a7 a8 a9 a10 a11 a12 a13 a14 := by
  obtain ⟨r0, r1, r2, r3, r4, r5, r6⟩ := hk
  have e3 : nI (3 ^ p) * 3 = nI (3 ^ (p + 1)) := by
    rw [Nat.pow_succ]
    exact pk_mul (3 ^ p) 3
  have k185 : ∀ (x9 t : Int32), x9 = z1 + z0 → t = nI (if ρ 6 r = 2 then P else if ρ 6 r = 1 then p else sy_tp P code) → wX_leads_185 post J24 J39 x1 (nI next) (nI (3 ^ P)) (nI (sy_tp P code)) (nI r) (nI (3 ^ p)) (nI p) x9 t sh ho (nI P) (nI R) (nI A) (nI K) 1 a1 a2 a3 a4 a5 a6 a7 a8 a9 a10 a11 a12 a13 a14 := by
    intro x9 t h9 ht
    have e : x9 + (((t - nI (sy_tp P code)) * 3) * nI (3 ^ P)) = sy_mk ρ P code r p := by
      rw [h9, hz0, hz1, ht]
      rfl
    exact nm_r e (br_c T (fun g => nm_r e3 (nm_r (nI_1 p) (F g))))
  have k163 : ∀ (x9 t : Int32), x9 = z1 + z0 → t = nI (if ρ 6 r = 1 then p else sy_tp P code) → wX_leads_163 post J24 J39 x1 (nI next) (nI (3 ^ P)) (nI (sy_tp P code)) (nI r) (nI (3 ^ p)) (nI p) x9 t sh ho (nI P) (nI R) (nI A) (nI K) 1 a1 a2 a3 a4 a5 a6 a7 a8 a9 a10 a11 a12 a13 a14 := by
    intro x9 t h9 ht
    unfold wX_leads_163
    rw [nI_clamp (show r < 2 ^ 31 by omega), h7]
    exact ⟨pk_in r 12 hr, pk_eq (ρ 6 r) 2 (fun g => k185 _ _ h9 (by rw [if_pos g])) (fun g => k185 _ _ h9 (by rw [if_neg g, ht]))⟩
  unfold wX_leads_142
  rw [nI_clamp (show r < 2 ^ 31 by omega), h7]
  exact nm_e ⟨pk_in r 12 hr, pk_eq (ρ 6 r) 1 (fun g => k163 _ _ rfl (by rw [if_pos g])) (fun g => k163 _ _ rfl (by rw [if_neg g]))⟩
theorem sy_l60 {post : Int32 → St2 → Prop} {J24 : Int32 → Prop} {J39 : Int32 → Int32 → Prop} {code next r p b : Nat} (hP : 1 ≤ P) (hP4 : P ≤ 4) (hR : R ≤ 12) (hra : sy_ra R ρ a1 a2 a3 a4 a5 a6 a7) (hc : code < sy_lm P) (hr : r < R) (hp : p < P) (hb : b = if p = sy_tp P code then 1 else 0) (hl : sy_ld P (sy_cl P code) sh ho a14)
    (T : sy_l1 ρ P code next r p → post 1 (sh, ho, nI P, nI R, nI A, nI K, 1, a1, a2, a3, a4, a5, a6, a7, a8, a9, a10, a11, a12, a13, a14)) (F : ¬ sy_l1 ρ P code next r p → J39 (nI (3 ^ (p + 1))) (nI (p + 1))) :
    wX_leads_60 post J24 J39 (nI code) (nI next) (nI (3 ^ P)) (nI (sy_tp P code)) (nI r) (nI (3 ^ p)) (nI p) (nI b) sh ho (nI P) (nI R) (nI A) (nI K) 1 a1 a2 a3 a4 a5 a6 a7 a8 a9 a10 a11 a12 a13 a14 := by
  obtain ⟨hk, h1, h2, h3, h4, h5, h6, h7⟩ := hra r hr
  have hk' := hk
  obtain ⟨r0, r1, r2, r3, r4, r5, r6⟩ := hk'
  have hlm := sy_lm_b hP4
  have hw := sy_pw (P := p) (by omega)
  obtain ⟨d0, d1, d2, d3⟩ := sy_cl_d (code := code) hP hP4
  have hpl := sy_pl_2 code p
  have hb1 : b ≤ 1 := by
    rw [hb]
    split <;> omega
  have hdv : code / 3 ^ p < 2 ^ 31 := Nat.lt_of_le_of_lt (Nat.div_le_self code _) (by omega)
  have e1 : nI code / nI (3 ^ p) = nI (code / 3 ^ p) := pk_div (by omega) (by omega) (by omega)
  have e2 : nI (code / 3 ^ p) - nI (code / 3 ^ p) / 3 * 3 = nI (sy_pl code p) := pk_rem (d := 3) hdv (by omega) (by omega)
  have e3 : nI (3 ^ p) * 3 = nI (3 ^ (p + 1)) := by
    rw [Nat.pow_succ]
    exact pk_mul (3 ^ p) 3
  unfold wX_leads_60
  rw [nI_clamp (show r < 2 ^ 31 by omega), e1, e2, h1, h2, h4]
  refine ⟨nI_ne0 (by omega) (by omega), by decide, pk_in r 12 (by omega), pk_eq (sy_pl code p) (ρ 0 r) (fun g => ?_) (fun g => nm_r e3 (nm_r (nI_1 p) (F (fun z => g z.1))))⟩
  refine sy_enabled hP4 hR hra hb1 hr d0.1 hl (fun he => br_f (by decide) ⟨pk_in r 12 (by omega), pk_in r 12 (by omega), nm_e ⟨pk_in r 12 (by omega), ?_⟩⟩) (fun he => br_t rfl (nm_r e3 (nm_r (nI_1 p) (F (fun z => he (by rw [hb]; exact z.2.1))))))
  rw [hb] at he
  refine pk_eq (ρ 3 r) 3 (fun g3 => ?_) (fun g3 => ⟨pk_in r 12 (by omega), ?_⟩)
  · exact sy_l142 (by omega) hk h7 rfl (by rw [if_pos g3]) (fun z => T ⟨g, he, z⟩) (fun z => F (fun y => z y.2.2))
  · exact sy_l142 (by omega) hk h7 rfl (by rw [if_neg g3, hl.1, d1]) (fun z => T ⟨g, he, z⟩) (fun z => F (fun y => z y.2.2))
theorem sy_l39 {post : Int32 → St2 → Prop} {J24 : Int32 → Prop} {code next r : Nat} (hP : 1 ≤ P) (hP4 : P ≤ 4) (hR : R ≤ 12) (hra : sy_ra R ρ a1 a2 a3 a4 a5 a6 a7) (hc : code < sy_lm P) (hr : r < R) (hl : sy_ld P (sy_cl P code) sh ho a14)
    (T : (∃ p, p < P ∧ sy_l1 ρ P code next r p) → post 1 (sh, ho, nI P, nI R, nI A, nI K, 1, a1, a2, a3, a4, a5, a6, a7, a8, a9, a10, a11, a12, a13, a14)) (F : ¬ (∃ p, p < P ∧ sy_l1 ρ P code next r p) → J24 (nI (r + 1))) :
    ∃ n, wX_leads_39 post J24 (nI code) (nI next) (nI (3 ^ P)) (nI (sy_tp P code)) (nI r) sh ho (nI P) (nI R) (nI A) (nI K) 1 a1 a2 a3 a4 a5 a6 a7 a8 a9 a10 a11 a12 a13 a14 n 1 0 := by
  have htp := sy_tp_le hc
  refine pk_loop (σ := Unit) (fun n i _ => wX_leads_39 post J24 (nI code) (nI next) (nI (3 ^ P)) (nI (sy_tp P code)) (nI r) sh ho (nI P) (nI R) (nI A) (nI K) 1 a1 a2 a3 a4 a5 a6 a7 a8 a9 a10 a11 a12 a13 a14 n (nI (3 ^ i)) (nI i)) (fun i _ => ∀ p, p < i → ¬ sy_l1 ρ P code next r p) P 0 () (by omega) (fun p hp => absurd hp (by omega)) ?_ ?_
  · intro n _ h
    exact pk_le P P (fun _ => nm_r (nI_1 r) (F (fun z => by obtain ⟨p, z1, z2⟩ := z; exact h p z1 z2))) (fun z => absurd z (by omega))
  · intro n i _ hi h hw
    refine pk_le P i (fun z => absurd z (by omega)) (fun _ => pk_eq i (sy_tp P code) (fun g => ?_) (fun g => ?_))
    · exact sy_l60 (b := 1) hP hP4 hR hra hc hr hi (by rw [if_pos g]) hl (fun z => T ⟨i, hi, z⟩) (fun z => hw () (lt_s h z))
    · exact sy_l60 (b := 0) hP hP4 hR hra hc hr hi (by rw [if_neg g]) hl (fun z => T ⟨i, hi, z⟩) (fun z => hw () (lt_s h z))
theorem sy_leads {post : Int32 → St2 → Prop} {code next : Nat} (hP : 1 ≤ P) (hP4 : P ≤ 4) (hR : R ≤ 12) (hra : sy_ra R ρ a1 a2 a3 a4 a5 a6 a7) (hc : code < sy_lm P)
    (T : sy_le ρ P R code next → ∀ sh' ho' a14', post 1 (sh', ho', nI P, nI R, nI A, nI K, 1, a1, a2, a3, a4, a5, a6, a7, a8, a9, a10, a11, a12, a13, a14')) (F : ¬ sy_le ρ P R code next → ∀ sh' ho' a14', post 0 (sh', ho', nI P, nI R, nI A, nI K, 1, a1, a2, a3, a4, a5, a6, a7, a8, a9, a10, a11, a12, a13, a14')) : wpX_leads post (sh, ho, nI P, nI R, nI A, nI K, 1, a1, a2, a3, a4, a5, a6, a7, a8, a9, a10, a11, a12, a13, a14) (nI code) (nI next) := by
  have hlm := sy_lm_b hP4
  have hpw := sy_pw hP4
  unfold wpX_leads
  dsimp only
  refine sy_classOf hP hP4 hc (fun sh' ho' a14' hl => ?_)
  dsimp only
  refine sy_power hP4 ?_
  rw [show (3 : Int32) * nI (3 ^ P) = nI (3 * 3 ^ P) from pk_mul 3 (3 ^ P)]
  refine ⟨nI_ne0 (by omega) (by omega), nm_r (pk_div (by omega) (by omega) (by omega)) ?_⟩
  refine pk_loop (σ := Unit) (fun n i _ => wX_leads_24 post (nI code) (nI next) (nI (3 ^ P)) (nI (sy_tp P code)) sh' ho' (nI P) (nI R) (nI A) (nI K) 1 a1 a2 a3 a4 a5 a6 a7 a8 a9 a10 a11 a12 a13 a14' n (nI i)) (fun i _ => ∀ r, r < i → ¬ ∃ p, p < P ∧ sy_l1 ρ P code next r p) R 0 () (by omega) (fun p hp => absurd hp (by omega)) ?_ ?_
  · intro n _ h
    exact pk_le R R (fun _ => F (fun z => by obtain ⟨r, z1, z2⟩ := z; exact h r z1 z2) _ _ _) (fun z => absurd z (by omega))
  · intro n i _ hi h hw
    refine pk_le R i (fun z => absurd z (by omega)) (fun _ => ?_)
    exact sy_l39 hP hP4 hR hra hc hi hl (fun z => T ⟨i, hi, z⟩ _ _ _) (fun z => hw () (lt_s h z))
theorem sy_firstBefore {post : Int32 → St2 → Prop} {d code next : Nat} (hP : 1 ≤ P) (hP4 : P ≤ 4) (hR : R ≤ 12) (hra : sy_ra R ρ a1 a2 a3 a4 a5 a6 a7) (hd : d ≤ 400) (hbf : sy_BF ρ P R K q D) (har : sy_ar K q D a11 a12)
    (h : sy_FF ρ P R D d next code) (H : ∀ sh' ho' a14', post (nI code) (sh', ho', nI P, nI R, nI A, nI K, 1, a1, a2, a3, a4, a5, a6, a7, a8, a9, a10, a11, a12, a13, a14')) : wpX_firstBefore post (sh, ho, nI P, nI R, nI A, nI K, 1, a1, a2, a3, a4, a5, a6, a7, a8, a9, a10, a11, a12, a13, a14) (nI next) (nI d) := by
  obtain ⟨h1, h2, h3⟩ := h
  have hlm := sy_lm_b hP4
  have hD := hbf.2.2.2.2.2.2
  unfold wpX_firstBefore
  dsimp only
  refine sy_limit hP4 ?_
  refine pk_loop (σ := Int32 × Int32 × (Nat → Int32)) (fun n i s => wX_firstBefore_8 post (nI next) (nI d) (nI (sy_lm P)) n (nI i) s.1 s.2.1 (nI P) (nI R) (nI A) (nI K) 1 a1 a2 a3 a4 a5 a6 a7 a8 a9 a10 a11 a12 a13 s.2.2) (fun _ _ => True) code 0 (sh, ho, a14) (by omega) trivial ?_ ?_
  · intro n s _
    obtain ⟨d0, _⟩ := sy_cl_d (code := code) hP hP4
    have b0 := d0.1
    refine pk_le (sy_lm P) code (fun z => absurd z (by omega)) (fun _ => sy_classOf hP hP4 h1 (fun sh' ho' a14' hl => ⟨pk_in _ 300 b0, ?_⟩))
    dsimp only
    rw [nI_clamp (show sy_cl P code < 2 ^ 31 by omega), har.2 _ b0]
    refine br_t ((sy_deq (by have := hD _ b0; omega) hd).mpr h2.1) ?_
    exact sy_leads hP hP4 hR hra h1 (fun g _ _ _ => br_f (by decide) (H _ _ _)) (fun g => absurd h2.2 g)
  · intro n i s hi _ hw
    obtain ⟨d0, _⟩ := sy_cl_d (code := i) hP hP4
    have b0 := d0.1
    have h3i := h3 i hi
    refine pk_le (sy_lm P) i (fun z => absurd z (by omega)) (fun _ => sy_classOf hP hP4 (show i < sy_lm P by omega) (fun sh' ho' a14' hl => ⟨pk_in _ 300 b0, ?_⟩))
    dsimp only
    rw [nI_clamp (show sy_cl P i < 2 ^ 31 by omega), har.2 _ b0]
    refine ek_if (sy_deq (by have := hD _ b0; omega) hd) (fun g => ?_) (fun g => nm_r (nI_1 i) (hw (sh', ho', a14') trivial))
    exact sy_leads hP hP4 hR hra (show i < sy_lm P by omega) (fun g2 => absurd ⟨g, g2⟩ h3i) (fun g2 sh2 ho2 a2' => br_t rfl (nm_r (nI_1 i) (hw (sh2, ho2, a2') trivial)))
theorem sy_m1 (m : Nat) : nI m + (-1) = nI m - 1 := by
  grind
theorem sy_pm {i : Nat} (hi : i ≤ 400) : nI i - 1 < nI i := by
  by_cases e : i = 0
  · rw [e]
    decide
  · obtain ⟨m, rfl⟩ : ∃ m, i = m + 1 := ⟨i - 1, by omega⟩
    rw [nI_pred]
    exact nI_lt (by omega) (by omega)
theorem sy_trace {post : Int32 → St2 → Prop} {d i : Nat} {tr : Nat → Nat} (hP : 1 ≤ P) (hP4 : P ≤ 4) (hR : R ≤ 12) (hra : sy_ra R ρ a1 a2 a3 a4 a5 a6 a7) (hA : A ≤ 4) (haa : sy_aa A al a8 a9 a10) (hd : d ≤ 400) (hbf : sy_BF ρ P R K q D) (har : sy_ar K q D a11 a12)
    (hV : sy_V al P A K q D d) (hF : sy_FB al P A D d (tr d)) (hc : ∀ j, j < d → sy_FF ρ P R D j (tr (j + 1)) (tr j)) (hi : i ≤ d) (H : ∀ sh' ho' a14', post (nI (tr i)) (sh', ho', nI P, nI R, nI A, nI K, 1, a1, a2, a3, a4, a5, a6, a7, a8, a9, a10, a11, a12, a13, a14')) : wpX_trace post (sh, ho, nI P, nI R, nI A, nI K, 1, a1, a2, a3, a4, a5, a6, a7, a8, a9, a10, a11, a12, a13, a14) (nI i) := by
  unfold wpX_trace
  dsimp only
  refine sy_viol hP hP4 hA haa hbf har (fun d' hV' sh' ho' a14' => ?_) (fun z => ?_)
  · have ed := sy_V_u hV' hV
    subst ed
    dsimp only
    refine br_t (nI_pos' (by omega)) (br_f (nI_pos (by omega)) (br_t (nI_le hi (by omega)) ?_))
    refine sy_firstBad hP hP4 hA haa hd hbf har hF (fun sh2 ho2 a2' => nm_e ?_)
    refine pk_loop (σ := Int32 × Int32 × (Nat → Int32)) (fun n k s => wX_trace_34 post (nI i) n (nI (tr (d' - k))) (nI (d' - k) - 1) s.1 s.2.1 (nI P) (nI R) (nI A) (nI K) 1 a1 a2 a3 a4 a5 a6 a7 a8 a9 a10 a11 a12 a13 s.2.2) (fun _ _ => True) (d' - i) 0 (sh2, ho2, a2') (by omega) trivial ?_ ?_
    · intro n s _
      rw [show d' - (d' - i) = i by omega]
      exact br_t (sy_pm (by omega)) (H _ _ _)
    · intro n k s hk _ hw
      obtain ⟨m, hm⟩ : ∃ m, d' - k = m + 1 := ⟨d' - k - 1, by omega⟩
      have hw' := fun s' => hw s' trivial
      rw [show d' - (k + 1) = m by omega] at hw'
      rw [hm, nI_pred]
      refine br_f (nI_nlt (by omega) (by omega)) ?_
      exact sy_firstBefore hP hP4 hR hra (by omega) hbf har (hc m (by omega)) (fun sh3 ho3 a3' => nm_r (sy_m1 m) (hw' (sh3, ho3, a3')))
  · obtain ⟨k, k1, k2, _⟩ := hV
    exact absurd k2 (z k k1)
theorem sy_isCode {post : Int32 → Prop} {code : Nat} (hP4 : P ≤ 4) (hc : code < sy_lm P) (H : post 1) : wpX_isCode post (sh, ho, nI P, nI R, nI A, nI K, 1, a1, a2, a3, a4, a5, a6, a7, a8, a9, a10, a11, a12, a13, a14) (nI code) := by
  have hlm := sy_lm_b hP4
  unfold wpX_isCode
  dsimp only
  exact sy_limit hP4 (br_f (nI_pos (by omega)) (br_f (nI_ge hc (by omega)) H))
theorem sy_depth {post : Int32 → St2 → Prop} {code d : Nat} (hP : 1 ≤ P) (hP4 : P ≤ 4) (hd : d ≤ 400) (har : sy_ar K q D a11 a12) (hc : code < sy_lm P) (hD : D (sy_cl P code) = d + 1)
    (H : ∀ sh' ho' a14', post (nI d) (sh', ho', nI P, nI R, nI A, nI K, 1, a1, a2, a3, a4, a5, a6, a7, a8, a9, a10, a11, a12, a13, a14')) : wpX_depth post (sh, ho, nI P, nI R, nI A, nI K, 1, a1, a2, a3, a4, a5, a6, a7, a8, a9, a10, a11, a12, a13, a14) (nI code) := by
  obtain ⟨d0, _⟩ := sy_cl_d (code := code) hP hP4
  have b0 := d0.1
  unfold wpX_depth
  dsimp only
  refine sy_isCode hP4 hc (br_f (by decide) (br_f (by decide) ?_))
  refine sy_classOf hP hP4 hc (fun sh' ho' a14' hl => ⟨pk_in _ 300 b0, ?_⟩)
  dsimp only
  rw [nI_clamp (show sy_cl P code < 2 ^ 31 by omega), har.2 _ b0, hD, nI_pred]
  exact br_t (nI_pos' (by omega)) ⟨pk_in _ 300 b0, H _ _ _⟩
theorem sy_follows {post : Int32 → St2 → Prop} {code next : Nat} (hP : 1 ≤ P) (hP4 : P ≤ 4) (hR : R ≤ 12) (hra : sy_ra R ρ a1 a2 a3 a4 a5 a6 a7) (hc : code < sy_lm P) (hn : next < sy_lm P) (hle : sy_le ρ P R code next)
    (H : ∀ sh' ho' a14', post 1 (sh', ho', nI P, nI R, nI A, nI K, 1, a1, a2, a3, a4, a5, a6, a7, a8, a9, a10, a11, a12, a13, a14')) : wpX_follows post (sh, ho, nI P, nI R, nI A, nI K, 1, a1, a2, a3, a4, a5, a6, a7, a8, a9, a10, a11, a12, a13, a14) (nI code) (nI next) := by
  unfold wpX_follows
  dsimp only
  refine sy_isCode hP4 hc (br_f (by decide) (sy_isCode hP4 hn (br_f (by decide) ?_)))
  exact sy_leads hP hP4 hR hra hc (fun _ _ _ _ => br_f (by decide) (H _ _ _)) (fun z => absurd hle z)
end
end
section
theorem sy_pred {ρ : Nat → Nat → Nat} {P R K d code : Nat} {q D : Nat → Nat} (hP : 1 ≤ P) (hP4 : P ≤ 4) (hrk : ∀ r, r < R → sy_rk ρ r) (hbf : sy_BF ρ P R K q D) (hc : code < sy_lm P) (hD : D (sy_cl P code) = d + 2) : ∃ b, sy_FF ρ P R D d code b := by
  obtain ⟨d0, _⟩ := sy_cl_d (code := code) hP hP4
  obtain ⟨c0, g1, g2, r, b, g3, g4, g5, g6⟩ := hbf.2.2.2.2.2.1 _ d0.1 d hD
  obtain ⟨code0, w1, w2, w3⟩ := sy_lift hP hP4 g4 g3 (hrk r g3) g1 g5 hc g6.symm
  obtain ⟨k, k1, k2⟩ := pk_least (fun k => k < sy_lm P ∧ (D (sy_cl P k) = d + 1 ∧ sy_le ρ P R k code)) ⟨code0, w1, by rw [w2]; exact g2, w3⟩
  exact ⟨k, k1.1, k1.2, fun j hj z => k2 j hj ⟨Nat.lt_trans hj k1.1, z⟩⟩
theorem sy_chain {ρ : Nat → Nat → Nat} {P R K : Nat} {q D : Nat → Nat} (hP : 1 ≤ P) (hP4 : P ≤ 4) (hrk : ∀ r, r < R → sy_rk ρ r) (hbf : sy_BF ρ P R K q D) :
    ∀ d code, code < sy_lm P → D (sy_cl P code) = d + 1 → ∃ tr : Nat → Nat, tr d = code ∧ ∀ j, j < d → sy_FF ρ P R D j (tr (j + 1)) (tr j) := by
  intro d
  induction d with
  | zero => exact fun code _ _ => ⟨fun _ => code, rfl, fun j hj => absurd hj (by omega)⟩
  | succ d ih =>
    intro code hc hD
    obtain ⟨b, hb⟩ := sy_pred hP hP4 hrk hbf hc hD
    obtain ⟨tr, t1, t2⟩ := ih b hb.1 hb.2.1.1
    refine ⟨sy_up tr (d + 1) code, sy_us, fun j hj => ?_⟩
    by_cases e : j = d
    · rw [e, sy_us, sy_un (show d ≠ d + 1 by omega), t1]
      exact hb
    · rw [sy_un (show j ≠ d + 1 by omega), sy_un (show j + 1 ≠ d + 1 by omega)]
      exact t2 j (by omega)
/-- the trace that the class finds -/
theorem sy_tr {ρ al : Nat → Nat → Nat} {P R A K d : Nat} {q D : Nat → Nat} (hP : 1 ≤ P) (hP4 : P ≤ 4) (hrk : ∀ r, r < R → sy_rk ρ r) (hbf : sy_BF ρ P R K q D) (hV : sy_V al P A K q D d) :
    d ≤ 300 ∧ ∃ tr : Nat → Nat, sy_FB al P A D d (tr d) ∧ (∀ j, j < d → sy_FF ρ P R D j (tr (j + 1)) (tr j)) ∧ (∀ j, j ≤ d → tr j < sy_lm P ∧ D (sy_cl P (tr j)) = j + 1) ∧ tr 0 = P * (3 * 3 ^ P) := by
  obtain ⟨k, v1, v2, v3, v4⟩ := hV
  have hb3 := hbf.2.2.1 k v1
  have hK := hbf.2.1
  obtain ⟨code0, w1, w2⟩ := sy_sur hP hP4 hb3.1
  obtain ⟨f, f1, f2⟩ := pk_least (fun k => k < sy_lm P ∧ (D (sy_cl P k) = d + 1 ∧ sy_rg al P A (sy_cl P k))) ⟨code0, w1, by rw [w2]; exact ⟨v4, v2⟩⟩
  obtain ⟨tr, t1, t2⟩ := sy_chain hP hP4 hrk hbf d f f1.1 f1.2.1
  have t3 : ∀ j, j ≤ d → tr j < sy_lm P ∧ D (sy_cl P (tr j)) = j + 1 := by
    intro j hj
    by_cases e : j = d
    · rw [e, t1]
      exact ⟨f1.1, f1.2.1⟩
    · have := t2 j (by omega)
      exact ⟨this.1, this.2.1.1⟩
  refine ⟨by omega, tr, ?_, t2, t3, ?_⟩
  · rw [t1]
    exact ⟨f1.1, f1.2, fun j hj z => f2 j hj ⟨Nat.lt_trans hj f1.1, z⟩⟩
  · obtain ⟨g1, g2⟩ := t3 0 (by omega)
    obtain ⟨d0, _⟩ := sy_cl_d (code := tr 0) hP hP4
    exact sy_first hP hP4 g1 (hbf.2.2.2.2.1 _ d0.1 g2)
section
variable {P R A K : Nat} {ρ al : Nat → Nat → Nat} {q D : Nat → Nat} {sh ho : Int32} {a1 a2 a3 a4 a5 a6 a7 a8 a9 a10 a11 a12 a13 a14 : Nat → Int32}
theorem sy_h123 {post : Int32 → St2 → Prop} (hP : 1 ≤ P) (hP4 : P ≤ 4) (hbf : sy_BF ρ P R K q D) (har : sy_ar K q D a11 a12)
    (H : ∀ sh' ho' a14', post 1 (sh', ho', nI P, nI R, nI A, nI K, 1, a1, a2, a3, a4, a5, a6, a7, a8, a9, a10, a11, a12, a13, a14')) : wL_holds_123 post sh ho (nI P) (nI R) (nI A) (nI K) 1 a1 a2 a3 a4 a5 a6 a7 a8 a9 a10 a11 a12 a13 a14 := by
  have hK1 := hbf.1
  have hK := hbf.2.1
  unfold wL_holds_123
  refine sy_radius hbf har (fun r hr => ?_)
  obtain ⟨_, b2, b3⟩ := hbf.2.2.1 (K - 1) (by omega)
  refine br_f (nI_pos (by omega)) (br_t (nI_le (b := 1215) (by omega) (by omega)) ?_)
  refine pk_loop (σ := Int32 × Int32 × (Nat → Int32)) (fun n i s => wL_holds_150 post (nI r) n (sy_sm (fun k => sy_sm (fun j => if D (q j) = k + 1 then sy_sz P (q j) else 0) K) i) (nI i) s.1 s.2.1 (nI P) (nI R) (nI A) (nI K) 1 a1 a2 a3 a4 a5 a6 a7 a8 a9 a10 a11 a12 a13 s.2.2) (fun _ _ => True) (r + 1) 0 (sh, ho, a14) (by omega) trivial ?_ ?_
  · intro n s _
    refine pk_lt r (r + 1) (fun _ => ?_) (fun z => absurd z (by omega))
    refine sy_reach hP hP4 hbf har (fun sh' ho' a14' => br_t ?_ (H _ _ _))
    refine sy_lay (D := fun j => D (q j)) K (fun j hj => ⟨(hbf.2.2.1 j hj).2.1, ?_⟩)
    rw [← hr]
    exact hbf.2.2.2.1 j (K - 1) (by omega) (by omega)
  · intro n i s hi _ hw
    refine pk_lt r i (fun z => absurd z (by omega)) (fun _ => ?_)
    exact sy_layer hP hP4 (by omega) hbf har (fun sh' ho' a14' => nm_e (nm_r (nI_1 i) (hw (sh', ho', a14') trivial)))
theorem sy_h53 {post : Int32 → St2 → Prop} {d : Nat} {tr : Nat → Nat} (hP : 1 ≤ P) (hP4 : P ≤ 4) (hR : R ≤ 12) (hra : sy_ra R ρ a1 a2 a3 a4 a5 a6 a7) (hA : A ≤ 4) (haa : sy_aa A al a8 a9 a10) (hd : d ≤ 300) (hbf : sy_BF ρ P R K q D) (har : sy_ar K q D a11 a12)
    (hV : sy_V al P A K q D d) (hF : sy_FB al P A D d (tr d)) (hc : ∀ j, j < d → sy_FF ρ P R D j (tr (j + 1)) (tr j)) (ht : ∀ j, j ≤ d → tr j < sy_lm P ∧ D (sy_cl P (tr j)) = j + 1)
    (H : ∀ sh' ho' a14', post 1 (sh', ho', nI P, nI R, nI A, nI K, 1, a1, a2, a3, a4, a5, a6, a7, a8, a9, a10, a11, a12, a13, a14')) : ∃ n, wL_holds_53 post (nI d) n (nI (tr 0)) 0 sh ho (nI P) (nI R) (nI A) (nI K) 1 a1 a2 a3 a4 a5 a6 a7 a8 a9 a10 a11 a12 a13 a14 := by
  refine pk_loop (σ := Int32 × Int32 × (Nat → Int32)) (fun n i s => wL_holds_53 post (nI d) n (nI (tr (min i d))) (nI i) s.1 s.2.1 (nI P) (nI R) (nI A) (nI K) 1 a1 a2 a3 a4 a5 a6 a7 a8 a9 a10 a11 a12 a13 s.2.2) (fun _ _ => True) (d + 1) 0 (sh, ho, a14) (by omega) trivial ?_ ?_ |>.elim (fun n hn => ⟨n, by rw [Nat.zero_min] at hn; exact hn⟩)
  · intro n s _
    exact pk_lt d (d + 1) (fun _ => sy_h123 hP hP4 hbf har H) (fun z => absurd z (by omega))
  · intro n i s hi _ hw
    have hw' := fun s' => hw s' trivial
    obtain ⟨g1, g2⟩ := ht i (by omega)
    rw [show min i d = i by omega]
    refine pk_lt d i (fun z => absurd z (by omega)) (fun _ => ?_)
    refine sy_depth hP hP4 (by omega) har g1 g2 (fun sh' ho' a14' => br_t rfl ?_)
    refine pk_le d i (fun z => ?_) (fun z => ?_)
    · refine pk_le d i (fun _ => nm_r (nI_1 i) ?_) (fun y => absurd y (by omega))
      rw [show min (i + 1) d = i by omega] at hw'
      exact hw' (sh', ho', a14')
    · rw [nI_1]
      refine sy_trace (i := i + 1) hP hP4 hR hra hA haa (by omega) hbf har hV hF hc (by omega) (fun sh2 ho2 a2' => ?_)
      refine pk_le d i (fun y => absurd y (by omega)) (fun _ => ?_)
      rw [show min (i + 1) d = i + 1 by omega] at hw'
      exact sy_follows hP hP4 hR hra g1 (ht (i + 1) (by omega)).1 (hc i z).2.1.2 (fun sh3 ho3 a3' => br_t rfl (nm_r (nI_1 i) (hw' (sh3, ho3, a3'))))
theorem sy_violA {post : Int32 → St2 → Prop} {kn ex : Int32} (hP : 1 ≤ P) (hP4 : P ≤ 4) (hR : R ≤ 12) (hra : sy_ra R ρ a1 a2 a3 a4 a5 a6 a7) (hA : A ≤ 4) (haa : sy_aa A al a8 a9 a10)
    (hE : ex = 0 ∨ (ex = 1 ∧ ∃ K q D, kn = nI K ∧ sy_BF ρ P R K q D ∧ sy_ar K q D a11 a12))
    (H : ∀ K q D a11' a12', sy_BF ρ P R K q D → sy_ar K q D a11' a12' → (∀ d, sy_V al P A K q D d → ∀ sh' ho' a14', post (nI d) (sh', ho', nI P, nI R, nI A, nI K, 1, a1, a2, a3, a4, a5, a6, a7, a8, a9, a10, a11', a12', a13, a14')) ∧ ((∀ j, j < K → ¬ sy_rg al P A (q j)) → ∀ sh' ho' a14', post (-1) (sh', ho', nI P, nI R, nI A, nI K, 1, a1, a2, a3, a4, a5, a6, a7, a8, a9, a10, a11', a12', a13, a14'))) :
    wpX_violation post (sh, ho, nI P, nI R, nI A, kn, ex, a1, a2, a3, a4, a5, a6, a7, a8, a9, a10, a11, a12, a13, a14) := by
  rcases hE with rfl | ⟨rfl, K, q, D, rfl, g1, g2⟩
  · exact sy_viol0 hP hP4 hR hra hA haa H
  · obtain ⟨T, F⟩ := H K q D a11 a12 g1 g2
    exact sy_viol hP hP4 hA haa g1 g2 T F
theorem sy_holds {post : Int32 → St2 → Prop} {kn ex : Int32} (hP : 1 ≤ P) (hP4 : P ≤ 4) (hR : R ≤ 12) (hra : sy_ra R ρ a1 a2 a3 a4 a5 a6 a7) (hA : A ≤ 4) (haa : sy_aa A al a8 a9 a10)
    (hE : ex = 0 ∨ (ex = 1 ∧ ∃ K q D, kn = nI K ∧ sy_BF ρ P R K q D ∧ sy_ar K q D a11 a12))
    (H : ∀ K q D sh' ho' a11' a12' a14', sy_BF ρ P R K q D → sy_ar K q D a11' a12' → post 1 (sh', ho', nI P, nI R, nI A, nI K, 1, a1, a2, a3, a4, a5, a6, a7, a8, a9, a10, a11', a12', a13, a14')) :
    wpL_holds post (sh, ho, nI P, nI R, nI A, kn, ex, a1, a2, a3, a4, a5, a6, a7, a8, a9, a10, a11, a12, a13, a14) (nI P) := by
  unfold wpL_holds
  dsimp only
  refine pk_loop (σ := Unit) (fun n i _ => wL_holds_4 post (nI P) sh ho (nI P) (nI R) (nI A) kn ex a1 a2 a3 a4 a5 a6 a7 a8 a9 a10 a11 a12 a13 a14 n (nI (P * 3 ^ i)) (nI i)) (fun _ _ => True) (P + 1) 0 () (by omega) trivial ?_ ?_ |>.elim (fun n hn => ⟨n, by rw [Nat.pow_zero, Nat.mul_one] at hn; exact hn⟩)
  · intro n _ _
    refine pk_lt P (P + 1) (fun _ => ?_) (fun z => absurd z (by omega))
    refine sy_violA hP hP4 hR hra hA haa hE (fun K q D a11' a12' g1 g2 => ⟨fun d hV sh' ho' a14' => ?_, fun hN sh' ho' a14' => ?_⟩)
    · obtain ⟨hd, tr, t1, t2, t3, t4⟩ := sy_tr hP hP4 (fun r hr => (hra r hr).1) g1 hV
      refine br_f (nI_pos (by omega)) ?_
      refine sy_trace (i := 0) hP hP4 hR hra hA haa (by omega) g1 g2 hV t1 t2 (by omega) (fun sh2 ho2 a2' => ?_)
      refine br_t ?_ (br_t (nI_le (b := 1215) (by omega) (by omega)) ?_)
      · rw [t4, Nat.pow_succ, Nat.mul_comm (3 ^ P) 3]
      · exact sy_h53 hP hP4 hR hra hA haa hd g1 g2 hV t1 t2 t3 (fun sh3 ho3 a3' => H K q D _ _ _ _ _ g1 g2)
    · refine br_t (by decide) ?_
      exact sy_h123 hP hP4 g1 g2 (fun sh3 ho3 a3' => H K q D _ _ _ _ _ g1 g2)
  · intro n i _ hi _ hw
    refine pk_lt P i (fun z => absurd z (by omega)) (fun _ => nm_r ?_ (nm_r (nI_1 i) (hw () trivial)))
    rw [show (3 : Int32) * nI (P * 3 ^ i) = nI (3 * (P * 3 ^ i)) from pk_mul 3 _, Nat.pow_succ, Nat.mul_comm 3, Nat.mul_assoc]
end
end
section
/-- what holds between the law's turns -/
def sy_I (P : Nat) (rc ac kn ex : Int32) (a1 a2 a3 a4 a5 a6 a7 a8 a9 a10 a11 a12 : Nat → Int32) : Prop :=
  ∃ (R : Nat) (ρ : Nat → Nat → Nat) (A : Nat) (al : Nat → Nat → Nat), rc = nI R ∧ R ≤ 12 ∧ sy_ra R ρ a1 a2 a3 a4 a5 a6 a7 ∧ ac = nI A ∧ A ≤ 4 ∧ sy_aa A al a8 a9 a10 ∧
    (ex = 0 ∨ (ex = 1 ∧ ∃ K q D, kn = nI K ∧ sy_BF ρ P R K q D ∧ sy_ar K q D a11 a12))
def sy_pr (ρ : Nat → Nat → Nat) (R : Nat) (v : Nat → Nat) : Nat → Nat → Nat := fun f r => if r = R then v f else ρ f r
theorem sy_prs {ρ : Nat → Nat → Nat} {R : Nat} {v : Nat → Nat} (f : Nat) : sy_pr ρ R v f R = v f := if_pos rfl
theorem sy_prn {ρ : Nat → Nat → Nat} {R r : Nat} {v : Nat → Nat} (f : Nat) (h : r ≠ R) : sy_pr ρ R v f r = ρ f r := if_neg h
def sy_vec (m0 m1 m2 m3 : Nat) : Nat → Nat
  | 0 => m0 / 3
  | 1 => m0 % 3
  | 2 => m1 / 4
  | 3 => m1 % 4
  | 4 => m2 / 4
  | 5 => m2 % 4
  | _ => m3
def sy_ve3 (m0 m1 m2 : Nat) : Nat → Nat
  | 0 => m0
  | 1 => m1
  | _ => m2
/-- a rule put at place k -/
theorem sy_ra_put {N M k : Nat} {ρ : Nat → Nat → Nat} {v : Nat → Nat} {a1 a2 a3 a4 a5 a6 a7 : Nat → Int32} (h : ∀ r, r < M → r ≠ k → r < N) (hra : sy_ra N ρ a1 a2 a3 a4 a5 a6 a7)
    (h0 : v 0 ≤ 2) (h1 : v 1 ≤ 2) (h2 : v 2 ≤ 3) (h3 : v 3 ≤ 3) (h4 : v 4 ≤ 2) (h5 : v 5 ≤ 3) (h6 : v 6 ≤ 4) :
    sy_ra M (sy_pr ρ k v) (upd a1 k (nI (v 0))) (upd a2 k (nI (v 1))) (upd a3 k (nI (v 2))) (upd a4 k (nI (v 3))) (upd a5 k (nI (v 4))) (upd a6 k (nI (v 5))) (upd a7 k (nI (v 6))) := by
  intro r hr
  unfold sy_rk
  by_cases e : r = k
  · subst e
    rw [sy_prs, sy_prs, sy_prs, sy_prs, sy_prs, sy_prs, sy_prs]
    exact ⟨⟨h0, h1, h2, h3, h4, h5, h6⟩, pk_us, pk_us, pk_us, pk_us, pk_us, pk_us, pk_us⟩
  · rw [sy_prn _ e, sy_prn _ e, sy_prn _ e, sy_prn _ e, sy_prn _ e, sy_prn _ e, sy_prn _ e, pk_un e, pk_un e, pk_un e, pk_un e, pk_un e, pk_un e, pk_un e]
    exact hra r (h r hr e)
section
variable {P R A K : Nat} {ρ al : Nat → Nat → Nat} {q D : Nat → Nat} {sh ho rc ac kn ex : Int32} {a1 a2 a3 a4 a5 a6 a7 a8 a9 a10 a11 a12 a13 a14 : Nat → Int32}
theorem sy_addRule {post : Int32 → St2 → Prop} {p0 p1 p2 p3 : Int32} (h : sy_I P rc ac kn ex a1 a2 a3 a4 a5 a6 a7 a8 a9 a10 a11 a12)
    (H : ∀ r rc' ex' b1 b2 b3 b4 b5 b6 b7, sy_I P rc' ac kn ex' b1 b2 b3 b4 b5 b6 b7 a8 a9 a10 a11 a12 → post r (sh, ho, nI P, rc', ac, kn, ex', b1, b2, b3, b4, b5, b6, b7, a8, a9, a10, a11, a12, a13, a14)) :
    wpX_addRule post (sh, ho, nI P, rc, ac, kn, ex, a1, a2, a3, a4, a5, a6, a7, a8, a9, a10, a11, a12, a13, a14) p0 p1 p2 p3 := by
  have Z : ∀ r, post r (sh, ho, nI P, rc, ac, kn, ex, a1, a2, a3, a4, a5, a6, a7, a8, a9, a10, a11, a12, a13, a14) := fun r => H r _ _ _ _ _ _ _ _ _ h
  unfold wpX_addRule
  dsimp only
  refine br_c (fun _ => Z _) (fun g0 => br_c (fun g0' => br_c (fun _ => Z _) (fun g1 => br_c (fun g1' => br_c (fun _ => Z _) (fun g2 => br_c (fun g2' => br_c (fun _ => Z _) (fun g3 => br_c (fun g3' => ?_) (fun _ => Z _))) (fun _ => Z _))) (fun _ => Z _))) (fun _ => Z _))
  obtain ⟨m0, k0, rfl⟩ := nI_of2 (n := 8) (by decide) g0 g0'
  obtain ⟨m1, k1, rfl⟩ := nI_of2 (n := 15) (by decide) g1 g1'
  obtain ⟨m2, k2, rfl⟩ := nI_of2 (n := 11) (by decide) g2 g2'
  obtain ⟨m3, k3, rfl⟩ := nI_of2 (n := 4) (by decide) g3 g3'
  obtain ⟨R, ρ, A, al, rfl, hR, hra, hA', hA, haa, hE⟩ := h
  have e0 : nI m0 / 3 = nI (m0 / 3) := pk_div (d := 3) (by omega) (by omega) (by omega)
  have e1 : nI m0 - nI (m0 / 3) * 3 = nI (m0 % 3) := by
    rw [← e0]
    exact pk_rem (d := 3) (by omega) (by omega) (by omega)
  have e2 : nI m1 >>> ((2 : Int32) &&& 31) = nI (m1 / 4) := pk_shrN (by omega) _ 2 (by decide)
  have e3 : nI m1 &&& 3 = nI (m1 % 4) := pk_andN (by omega) 2 (by decide)
  have e4 : nI m2 >>> ((2 : Int32) &&& 31) = nI (m2 / 4) := pk_shrN (by omega) _ 2 (by decide)
  have e5 : nI m2 &&& 3 = nI (m2 % 4) := pk_andN (by omega) 2 (by decide)
  rw [e0, e1, e2, e3, e4, e5, nI_clamp (show R < 2 ^ 31 by omega)]
  refine pk_eq R 12 (fun _ => Z _) (fun hR' => ?_)
  have i12 : vp_in (nI R) 12 := pk_in R 12 (by omega)
  refine ⟨by decide, i12, nm_e ⟨by decide, i12, nm_e ⟨i12, nm_e ⟨i12, nm_e ⟨i12, nm_e ⟨i12, nm_e ⟨i12, nm_e (nm_r (nI_1 R) ?_)⟩⟩⟩⟩⟩⟩⟩
  refine H _ _ _ _ _ _ _ _ _ _ ⟨R + 1, sy_pr ρ R (sy_vec m0 m1 m2 m3), A, al, rfl, by omega, ?_, hA', hA, haa, Or.inl rfl⟩
  exact sy_ra_put (v := sy_vec m0 m1 m2 m3) (fun r hr hn => by omega) hra (show m0 / 3 ≤ 2 by omega) (show m0 % 3 ≤ 2 by omega) (show m1 / 4 ≤ 3 by omega) (show m1 % 4 ≤ 3 by omega) (show m2 / 4 ≤ 2 by omega) (show m2 % 4 ≤ 3 by omega) k3
theorem sy_addAlarm {post : Int32 → St2 → Prop} {p0 p1 p2 : Int32} (h : sy_I P rc ac kn ex a1 a2 a3 a4 a5 a6 a7 a8 a9 a10 a11 a12)
    (H : ∀ r ac' b8 b9 b10, sy_I P rc ac' kn ex a1 a2 a3 a4 a5 a6 a7 b8 b9 b10 a11 a12 → post r (sh, ho, nI P, rc, ac', kn, ex, a1, a2, a3, a4, a5, a6, a7, b8, b9, b10, a11, a12, a13, a14)) :
    wpX_addAlarm post (sh, ho, nI P, rc, ac, kn, ex, a1, a2, a3, a4, a5, a6, a7, a8, a9, a10, a11, a12, a13, a14) p0 p1 p2 := by
  have Z : ∀ r, post r (sh, ho, nI P, rc, ac, kn, ex, a1, a2, a3, a4, a5, a6, a7, a8, a9, a10, a11, a12, a13, a14) := fun r => H r _ _ _ _ h
  unfold wpX_addAlarm
  dsimp only
  refine br_c (fun _ => Z _) (fun g0 => br_c (fun g0' => br_c (fun _ => Z _) (fun g1 => br_c (fun g1' => br_c (fun _ => Z _) (fun g2 => br_c (fun g2' => ?_) (fun _ => Z _))) (fun _ => Z _))) (fun _ => Z _))
  have g1n : ¬ p1 < 0 := fun z => g1 (Int32.lt_trans z (by decide))
  obtain ⟨m0, k0, rfl⟩ := nI_of2 (n := 2) (by decide) g0 g0'
  obtain ⟨m1, k1, rfl⟩ := nI_of2 (n := 4) (by decide) g1n g1'
  obtain ⟨m2, k2, rfl⟩ := nI_of2 (n := 3) (by decide) g2 g2'
  obtain ⟨R, ρ, A, al, hR', hR, hra, rfl, hA, haa, hE⟩ := h
  rw [nI_clamp (show A < 2 ^ 31 by omega)]
  refine pk_eq A 4 (fun _ => Z _) (fun hA' => ?_)
  have i4 : vp_in (nI A) 4 := pk_in A 4 (by omega)
  refine ⟨i4, nm_e ⟨i4, nm_e ⟨i4, nm_e (nm_r (nI_1 A) ?_)⟩⟩⟩
  refine H _ _ _ _ _ ⟨R, ρ, A + 1, sy_pr al A (sy_ve3 m0 m1 m2), hR', hR, hra, rfl, by omega, ?_, hE⟩
  intro a ha
  by_cases e : a = A
  · subst e
    rw [sy_prs, sy_prs, sy_prs]
    exact ⟨k0, k1, k2, pk_us, pk_us, pk_us⟩
  · rw [sy_prn _ e, sy_prn _ e, sy_prn _ e, pk_un e, pk_un e, pk_un e]
    exact haa a (by omega)
theorem sy_dropRule {post : Int32 → St2 → Prop} {p0 : Int32} (h : sy_I P rc ac kn ex a1 a2 a3 a4 a5 a6 a7 a8 a9 a10 a11 a12)
    (H : ∀ r rc' ex' b1 b2 b3 b4 b5 b6 b7, sy_I P rc' ac kn ex' b1 b2 b3 b4 b5 b6 b7 a8 a9 a10 a11 a12 → post r (sh, ho, nI P, rc', ac, kn, ex', b1, b2, b3, b4, b5, b6, b7, a8, a9, a10, a11, a12, a13, a14)) :
    wpX_dropRule post (sh, ho, nI P, rc, ac, kn, ex, a1, a2, a3, a4, a5, a6, a7, a8, a9, a10, a11, a12, a13, a14) p0 := by
  have Z : ∀ r, post r (sh, ho, nI P, rc, ac, kn, ex, a1, a2, a3, a4, a5, a6, a7, a8, a9, a10, a11, a12, a13, a14) := fun r => H r _ _ _ _ _ _ _ _ _ h
  unfold wpX_dropRule
  dsimp only
  refine br_c (fun _ => Z _) (fun g0 => br_c (fun g1 => ?_) (fun _ => Z _))
  obtain ⟨j, hj, rfl⟩ := nI_of g0
  obtain ⟨R, ρ, A, al, rfl, hR, hra, hA', hA, haa, hE⟩ := h
  have hjR : j < R := (nI_ltI hj (by omega)).mp g1
  refine nm_r (nI_1 j) ?_
  refine pk_loop (σ := (Nat → Int32) × (Nat → Int32) × (Nat → Int32) × (Nat → Int32) × (Nat → Int32) × (Nat → Int32) × (Nat → Int32)) (fun n i s => wX_dropRule_18 post sh ho (nI P) (nI R) ac kn ex n (nI i) s.1 s.2.1 s.2.2.1 s.2.2.2.1 s.2.2.2.2.1 s.2.2.2.2.2.1 s.2.2.2.2.2.2 a8 a9 a10 a11 a12 a13 a14)
    (fun i s => 1 ≤ i ∧ ∃ ρ', sy_ra R ρ' s.1 s.2.1 s.2.2.1 s.2.2.2.1 s.2.2.2.2.1 s.2.2.2.2.2.1 s.2.2.2.2.2.2) R (j + 1) (a1, a2, a3, a4, a5, a6, a7) (by omega) ⟨by omega, ρ, hra⟩ ?_ ?_
  · intro n s hs
    obtain ⟨s1, s2, s3, s4, s5, s6, s7⟩ := s
    obtain ⟨_, ρ', hr⟩ := hs
    refine pk_le R R (fun _ => nm_r (pk_sub (b := 1) (by omega)) ?_) (fun z => absurd z (by omega))
    exact H _ _ _ _ _ _ _ _ _ _ ⟨R - 1, ρ', A, al, rfl, by omega, fun r hrr => hr r (by omega), hA', hA, haa, Or.inl rfl⟩
  · intro n i s hi hs hw
    obtain ⟨s1, s2, s3, s4, s5, s6, s7⟩ := s
    obtain ⟨h1, ρ', hr⟩ := hs
    dsimp only at hr
    obtain ⟨hk, c1, c2, c3, c4, c5, c6, c7⟩ := hr i hi
    obtain ⟨r0, r1, r2, r3, r4, r5, r6⟩ := hk
    have i1 : vp_in (nI i) 12 := pk_in i 12 (by omega)
    have i2 : vp_in (nI (i - 1)) 12 := pk_in (i - 1) 12 (by omega)
    refine pk_le R i (fun z => absurd z (by omega)) (fun _ => ?_)
    dsimp only
    rw [show nI i - 1 = nI (i - 1) from pk_sub (b := 1) h1, nI_clamp (show i < 2 ^ 31 by omega), nI_clamp (show i - 1 < 2 ^ 31 by omega), c1, c2, c3, c4, c5, c6, c7]
    refine ⟨i1, i2, nm_e ⟨i1, i2, nm_e ⟨i1, i2, nm_e ⟨i1, i2, nm_e ⟨i1, i2, nm_e ⟨i1, i2, nm_e ⟨i1, i2, nm_e (nm_r (nI_1 i) ?_)⟩⟩⟩⟩⟩⟩⟩
    refine hw (_, _, _, _, _, _, _) ⟨by omega, sy_pr ρ' (i - 1) (fun f => ρ' f i), ?_⟩
    exact sy_ra_put (v := fun f => ρ' f i) (fun r hr hn => hr) hr r0 r1 r2 r3 r4 r5 r6
theorem sy_clear {post : Int32 → St2 → Prop} (h : sy_I P rc ac kn ex a1 a2 a3 a4 a5 a6 a7 a8 a9 a10 a11 a12)
    (H : ∀ r ac', sy_I P rc ac' kn ex a1 a2 a3 a4 a5 a6 a7 a8 a9 a10 a11 a12 → post r (sh, ho, nI P, rc, ac', kn, ex, a1, a2, a3, a4, a5, a6, a7, a8, a9, a10, a11, a12, a13, a14)) : wpX_clearAlarms post (sh, ho, nI P, rc, ac, kn, ex, a1, a2, a3, a4, a5, a6, a7, a8, a9, a10, a11, a12, a13, a14) := by
  obtain ⟨R, ρ, A, al, hR', hR, hra, hA', hA, haa, hE⟩ := h
  exact H _ _ ⟨R, ρ, 0, al, hR', hR, hra, rfl, by omega, fun a ha => absurd ha (by omega), hE⟩
theorem sy_turn {post : St2 → Prop} {p1 p2 : Int32} (h : sy_I P rc ac kn ex a1 a2 a3 a4 a5 a6 a7 a8 a9 a10 a11 a12)
    (H : ∀ rc' ac' ex' b1 b2 b3 b4 b5 b6 b7 b8 b9 b10, sy_I P rc' ac' kn ex' b1 b2 b3 b4 b5 b6 b7 b8 b9 b10 a11 a12 → post (sh, ho, nI P, rc', ac', kn, ex', b1, b2, b3, b4, b5, b6, b7, b8, b9, b10, a11, a12, a13, a14)) :
    wpL_turn post (sh, ho, nI P, rc, ac, kn, ex, a1, a2, a3, a4, a5, a6, a7, a8, a9, a10, a11, a12, a13, a14) p1 p2 := by
  unfold wpL_turn
  dsimp only
  refine nm_e (nm_e ⟨by decide, nm_e ⟨by decide, nm_e ⟨by decide, nm_e ?_⟩⟩⟩)
  refine br_c (fun _ => br_c (fun _ => br_c (fun _ => br_c (fun _ => ⟨by decide, ?_⟩) (fun _ => br_c (fun _ => ?_) (fun _ => ?_))) (fun _ => ⟨by decide, ?_⟩)) (fun _ => ?_)) (fun _ => ?_)
  · exact sy_dropRule h (fun r rc' ex' b1 b2 b3 b4 b5 b6 b7 g => H _ _ _ _ _ _ _ _ _ _ _ _ _ g)
  · exact sy_clear h (fun r ac' g => H _ _ _ _ _ _ _ _ _ _ _ _ _ g)
  · exact H _ _ _ _ _ _ _ _ _ _ _ _ _ h
  · exact sy_addAlarm h (fun r ac' b8 b9 b10 g => H _ _ _ _ _ _ _ _ _ _ _ _ _ g)
  · exact sy_addRule h (fun r rc' ex' b1 b2 b3 b4 b5 b6 b7 g => H _ _ _ _ _ _ _ _ _ _ _ _ _ g)
  · exact sy_addRule h (fun r rc' ex' b1 b2 b3 b4 b5 b6 b7 g => H _ _ _ _ _ _ _ _ _ _ _ _ _ g)
theorem sy_holdsI {post : Int32 → St2 → Prop} (hP : 1 ≤ P) (hP4 : P ≤ 4) (h : sy_I P rc ac kn ex a1 a2 a3 a4 a5 a6 a7 a8 a9 a10 a11 a12)
    (H : ∀ sh' ho' kn' a11' a12' a14', sy_I P rc ac kn' 1 a1 a2 a3 a4 a5 a6 a7 a8 a9 a10 a11' a12' → post 1 (sh', ho', nI P, rc, ac, kn', 1, a1, a2, a3, a4, a5, a6, a7, a8, a9, a10, a11', a12', a13, a14')) :
    wpL_holds post (sh, ho, nI P, rc, ac, kn, ex, a1, a2, a3, a4, a5, a6, a7, a8, a9, a10, a11, a12, a13, a14) (nI P) := by
  obtain ⟨R, ρ, A, al, rfl, hR, hra, rfl, hA, haa, hE⟩ := h
  exact sy_holds hP hP4 hR hra hA haa hE (fun K q D sh' ho' a11' a12' a14' g1 g2 => H _ _ _ _ _ _ ⟨R, ρ, A, al, rfl, hR, hra, rfl, hA, haa, Or.inr ⟨rfl, K, q, D, rfl, g1, g2⟩⟩)
end
end
section
theorem sy_cell {post : Int32 → Prop} {L k : Nat} {xs : Nat → Int32} (hL : L ≤ 260) (hk : k ≤ 1000) (H : ∀ v, post v) : wpL_cell post L xs () (nI k) :=
  pk_le L k (fun _ => H _) (fun z => ⟨pk_in k L z, H _⟩)
theorem sy_law21 {P L kc ks : Nat} {xs : Nat → Int32} (hP : 1 ≤ P) (hP4 : P ≤ 4) (hL : L ≤ 260) : ∀ (n j : Nat) (sh ho rc ac kn ex : Int32) (a1 a2 a3 a4 a5 a6 a7 a8 a9 a10 a11 a12 a13 a14 : Nat → Int32),
    sy_I P rc ac kn ex a1 a2 a3 a4 a5 a6 a7 a8 a9 a10 a11 a12 → j ≤ 300 → L - j < n → wL_law_21 (fun r => r = 1) L xs (nI P) kc ks n (nI j) sh ho (nI P) rc ac kn ex a1 a2 a3 a4 a5 a6 a7 a8 a9 a10 a11 a12 a13 a14 := by
  intro n
  induction n with
  | zero => exact fun j _ _ _ _ _ _ _ _ _ _ _ _ _ _ _ _ _ _ _ _ _ _ z => absurd z (by omega)
  | succ n ih =>
    intro j sh ho rc ac kn ex a1 a2 a3 a4 a5 a6 a7 a8 a9 a10 a11 a12 a13 a14 h hj hn
    refine pk_le L j (fun _ => ?_) (fun hjL => ?_)
    · exact sy_holdsI hP hP4 h (fun sh' ho' kn' a11' a12' a14' g => rfl)
    · refine sy_cell hL (by omega) (fun v => ?_)
      rw [nI_1]
      refine sy_cell hL (by omega) (fun w => ?_)
      refine sy_turn h (fun rc' ac' ex' b1 b2 b3 b4 b5 b6 b7 b8 b9 b10 g => ?_)
      refine br_c (fun _ => ?_) (fun _ => nm_r (nI_add j 2) (ih _ _ _ _ _ _ _ _ _ _ _ _ _ _ _ _ _ _ _ _ _ g (by omega) (by omega)))
      refine sy_holdsI hP hP4 g (fun sh' ho' kn' a11' a12' a14' g2 => br_f (by decide) (nm_r (nI_add j 2) (ih _ _ _ _ _ _ _ _ _ _ _ _ _ _ _ _ _ _ _ _ _ g2 (by omega) (by omega))))
theorem i_vc (xs : Nat → Int32) (L : Nat) (hL : L ≤ 260) : wpL_law (fun r => r = 1) L xs := by
  unfold wpL_law
  refine sy_cell (k := 0) hL (by omega) (fun v => ?_)
  obtain ⟨j, hj, e⟩ := pk_andE v (m := 3) 2 (by decide)
  rw [e]
  refine nm_r (nI_add 1 j) ⟨14, 999, by omega, by omega, ?_⟩
  unfold wpX_init
  dsimp only
  refine ⟨by omega, by omega, by omega, by omega, by omega, by omega, by omega, by omega, by omega, by omega, by omega, by omega, by omega, by omega, by omega, by omega, by omega, by omega, by omega, by omega, by omega, by omega, by omega, by omega, by omega, by omega, by omega, by omega, ?_⟩
  refine pk_le 1 (1 + j) (fun _ => pk_le (1 + j) 4 (fun _ => ?_) (fun z => absurd z (by omega))) (fun z => absurd z (by omega))
  refine ⟨L + 1, sy_law21 (by omega) (by omega) hL (L + 1) 1 _ _ _ _ _ _ _ _ _ _ _ _ _ _ _ _ _ _ _ _ ?_ (by omega) (by omega)⟩
  exact ⟨0, fun _ _ => 0, 0, fun _ _ => 0, rfl, by omega, fun r hr => absurd hr (by omega), rfl, by omega, fun a ha => absurd ha (by omega), Or.inl rfl⟩
end
