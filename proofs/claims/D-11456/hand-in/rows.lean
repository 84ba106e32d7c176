section
/-! the pure picture: what each method computes at the modulus 7 -/
def dl_m (a b : Int32) : Int32 := a * b - a * b / 7 * 7
def dl_pw (x : Int32) : Nat → Int32 → Int32 → Int32 → Int32
  | 0 => fun r _ _ => r
  | n + 1 => fun r s i => dl_pw x n (if ((x >>> (i &&& 31)) &&& 1) = 1 then dl_m r s else r) (dl_m s s) (i + 1)
def dl_P (g x : Int32) : Int32 := dl_pw x 31 1 g 0
def dl_gc : Nat → Int32 → Int32 → Int32
  | 0 => fun x _ => x
  | n + 1 => fun x y => if y = 0 then x else dl_gc n y (x - x / y * y)
def dl_G (a b : Int32) : Int32 := dl_gc 64 a b
def dl_iv : Nat → Int32 → Int32 → Int32 → Int32 → Int32
  | 0 => fun _ _ s _ => s
  | n + 1 => fun r0 r1 s0 s1 => if r1 = 0 then s0 else dl_iv n r1 (r0 - r0 / r1 * r1) s1 (s0 - r0 / r1 * s1)
def dl_fix (m s : Int32) : Int32 := if 0 ≤ s then s else s + m
def dl_I (a m : Int32) : Int32 := dl_fix m (dl_iv 64 m (a - a / m * m) 0 1)
def dl_tb (a b m : Int32) : Int32 := (a.toInt64 * b.toInt64 - a.toInt64 * b.toInt64 / m.toInt64 * m.toInt64).toInt32
def dl_J (x m y n : Int32) : Int32 := x + m * dl_tb (dl_fix n ((y - x) - (y - x) / n * n)) (dl_I m n) n

theorem dl_mul {post : Int32 → Prop} {o f : Int32} {a1 a2 a3 a4 : Nat → Int32} {a b : Int32} (h : post (dl_m a b)) : wpX_mul post (7, o, f, a1, a2, a3, a4) a b := by
  unfold wpX_mul
  dsimp only
  exact br_f (by decide) ⟨by decide, h⟩

theorem dl_pow33 {post : Int32 → Prop} {J8 : Int32 → Int32 → Int32 → Prop} {x2 x3 x4 x5 o f : Int32} {a1 a2 a3 a4 : Nat → Int32} (h : J8 x3 (dl_m x4 x4) (x5 + 1)) : wX_pow_33 post J8 x2 x3 x4 x5 7 o f a1 a2 a3 a4 := by
  unfold wX_pow_33
  exact dl_mul (nm_e h)

theorem dl_pow8 {post : Int32 → Prop} {o f : Int32} {a1 a2 a3 a4 : Nat → Int32} (x : Int32) : ∀ (n : Nat) (r s : Int32), n ≤ 31 → post (dl_pw x n r s (nI (31 - n))) → wX_pow_8 post x 7 o f a1 a2 a3 a4 (n + 1) r s (nI (31 - n)) := by
  intro n
  induction n with
  | zero =>
    intro r s _ hp
    exact br_t (by decide) hp
  | succ n ih =>
    intro r s hn hp
    have e : nI (31 - (n + 1)) + 1 = nI (31 - n) := by
      rw [nI_1]
      congr 1
      omega
    have hp' : post (dl_pw x n (if ((x >>> (nI (31 - (n + 1)) &&& 31)) &&& 1) = 1 then dl_m r s else r) (dl_m s s) (nI (31 - n))) := by
      rw [← e]
      exact hp
    refine br_f (nI_ge (b := 31) (by omega) (by decide)) ?_
    by_cases hc : ((x >>> (nI (31 - (n + 1)) &&& 31)) &&& 1) = 1
    · rw [if_pos hc] at hp'
      refine br_t hc (dl_mul (dl_pow33 ?_))
      rw [e]
      exact ih _ _ (by omega) hp'
    · rw [if_neg hc] at hp'
      refine br_f hc (dl_pow33 ?_)
      rw [e]
      exact ih _ _ (by omega) hp'

theorem dl_pow {post : Int32 → Prop} {o f : Int32} {a1 a2 a3 a4 : Nat → Int32} {g x : Int32} (h : post (dl_P g x)) : wpX_pow post (7, o, f, a1, a2, a3, a4) g x := by
  unfold wpX_pow
  dsimp only
  exact ⟨32, dl_pow8 x 31 1 g (by omega) h⟩

theorem dl_inv {post : Int32 → Prop} {o f : Int32} {a1 a2 a3 a4 : Nat → Int32} {g : Int32} (h : post (dl_P g 5)) : wpX_invert post (7, o, f, a1, a2, a3, a4) g := by
  unfold wpX_invert
  dsimp only
  rw [show (7 : Int32) - 2 = 5 by decide]
  exact dl_pow h

theorem dl_gcd8 {post : Int32 → Prop} {p o f : Int32} {a1 a2 a3 a4 : Nat → Int32} : ∀ (n : Nat) (x y : Int32), n ≤ 64 → post (dl_gc n x y) → wX_gcd_8 post p o f a1 a2 a3 a4 (n + 1) x y (nI (64 - n)) := by
  intro n
  induction n with
  | zero =>
    intro x y _ hp
    exact br_t (by decide) hp
  | succ n ih =>
    intro x y hn hp
    have e : nI (64 - (n + 1)) + 1 = nI (64 - n) := by
      rw [nI_1]
      congr 1
      omega
    have hp' : post (if y = 0 then x else dl_gc n y (x - x / y * y)) := hp
    refine br_f (nI_ge (b := 64) (by omega) (by decide)) ?_
    by_cases hc : y = 0
    · rw [if_pos hc] at hp'
      exact br_t hc hp'
    · rw [if_neg hc] at hp'
      exact br_f hc ⟨hc, nm_e (nm_r e (ih _ _ (by omega) hp'))⟩

theorem dl_gcd {post : Int32 → Prop} {p o f : Int32} {a1 a2 a3 a4 : Nat → Int32} {x y : Int32} (h : post (dl_G x y)) : wpX_gcd post (p, o, f, a1, a2, a3, a4) x y := by
  unfold wpX_gcd
  dsimp only
  exact ⟨65, dl_gcd8 64 x y (by omega) h⟩

theorem dl_iv82 {post : Int32 → Prop} {m s p o f : Int32} {a1 a2 a3 a4 : Nat → Int32} (h : post (dl_fix m s)) : wX_invertBy_82 post m s p o f a1 a2 a3 a4 := by
  unfold dl_fix at h
  by_cases hc : 0 ≤ s
  · rw [if_pos hc] at h
    exact br_t hc h
  · rw [if_neg hc] at h
    exact br_f hc h

theorem dl_iv24 {post : Int32 → Prop} {m p o f : Int32} {a1 a2 a3 a4 : Nat → Int32} : ∀ (n : Nat) (r0 r1 s0 s1 : Int32), n ≤ 64 → post (dl_fix m (dl_iv n r0 r1 s0 s1)) → wX_invertBy_24 post m p o f a1 a2 a3 a4 (n + 1) r0 r1 s0 s1 (nI (64 - n)) := by
  intro n
  induction n with
  | zero =>
    intro r0 r1 s0 s1 _ hp
    exact br_t (by decide) (dl_iv82 hp)
  | succ n ih =>
    intro r0 r1 s0 s1 hn hp
    have e : nI (64 - (n + 1)) + 1 = nI (64 - n) := by
      rw [nI_1]
      congr 1
      omega
    have hp' : post (dl_fix m (if r1 = 0 then s0 else dl_iv n r1 (r0 - r0 / r1 * r1) s1 (s0 - r0 / r1 * s1))) := hp
    refine br_f (nI_ge (b := 64) (by omega) (by decide)) ?_
    by_cases hc : r1 = 0
    · rw [if_pos hc] at hp'
      exact br_t hc (dl_iv82 hp')
    · rw [if_neg hc] at hp'
      exact br_f hc ⟨hc, nm_e (nm_e (nm_e (nm_r e (ih _ _ _ _ (by omega) hp'))))⟩

theorem dl_ivb {post : Int32 → Prop} {p o f : Int32} {a1 a2 a3 a4 : Nat → Int32} {a m : Int32} (h1 : ¬ m ≤ 0) (h2 : ¬ m = 0) (h : post (dl_I a m)) : wpX_invertBy post (p, o, f, a1, a2, a3, a4) a m := by
  unfold wpX_invertBy
  dsimp only
  exact br_f h1 ⟨h2, nm_e ⟨65, dl_iv24 64 m (a - a / m * m) 0 1 (by omega) h⟩⟩

theorem dl_tby {post : Int32 → Prop} {p o f : Int32} {a1 a2 a3 a4 : Nat → Int32} {a b m : Int32} (h1 : 1 ≤ m) (h2 : ¬ m.toInt64 = 0) (h : post (dl_tb a b m)) : wpX_timesBy post (p, o, f, a1, a2, a3, a4) a b m := by
  unfold wpX_timesBy
  dsimp only
  exact br_t h1 (nm_e ⟨h2, h⟩)

theorem dl_join {post : Int32 → Prop} {p o f : Int32} {a1 a2 a3 a4 : Nat → Int32} {x m y n : Int32} (h0 : ¬ n ≤ 0) (h1 : ¬ n = 0) (h2 : 1 ≤ n) (h3 : ¬ n.toInt64 = 0) (h : post (dl_J x m y n)) : wpX_join post (p, o, f, a1, a2, a3, a4) x m y n := by
  unfold wpX_join
  dsimp only
  refine dl_ivb h0 h1 ⟨h1, nm_e ?_⟩
  unfold dl_J at h
  by_cases hc : 0 ≤ (y - x) - (y - x) / n * n
  · have e : dl_fix n ((y - x) - (y - x) / n * n) = (y - x) - (y - x) / n * n := if_pos hc
    rw [e] at h
    refine br_t hc ?_
    unfold wX_join_29
    exact dl_tby h2 h3 h
  · have e : dl_fix n ((y - x) - (y - x) / n * n) = (y - x) - (y - x) / n * n + n := if_neg hc
    rw [e] at h
    refine br_f hc (nm_e ?_)
    unfold wX_join_29
    exact dl_tby h2 h3 h
end
section
/-! the state after prime(7): 7, 6, 2, the primes 2 and 3, each once -/
def dl_B : Nat → Int32 := fun j => if j = 0 then 2 else if j = 1 then 3 else 0
def dl_T : Nat → Int32 := fun j => if j = 0 then 1 else if j = 1 then 1 else 0
def dl_u (g : Int32) : Int32 := if g < 1 then 1 else if g < 7 then 0 else 1
def dl_n1 (g : Int32) : Int32 := if dl_P g 3 = 1 then 3 else 6
def dl_O (g : Int32) : Int32 := if dl_P g (dl_n1 g / 3) = 1 then dl_n1 g / 3 else dl_n1 g
def dl_vo (g : Int32) : Int32 := if dl_u g = 0 then dl_O g else -1
def dl_vi (g : Int32) : Int32 := if dl_u g = 0 then dl_P g 5 else -1
def dl_vc (g h : Int32) : Int32 := if dl_u g = 0 then (if dl_u h = 0 then dl_G (dl_O g) (dl_O h) else -1) else -1
def dl_vr (h : Int32) : Int32 := if dl_u h = 0 then (if dl_P h 3 = 1 then 2 else 0) else -1
def dl_many (n : Int32) : Int32 := if n = 1 then 1 else if n = 2 then 1 else if n = 3 then 2 else if n = 6 then 2 else 0

theorem dl_nu {post : Int32 → Prop} {o f : Int32} {a1 a2 a3 a4 : Nat → Int32} {g : Int32} (h : post (dl_u g)) : wpX_notUnit post (7, o, f, a1, a2, a3, a4) g := by
  unfold wpX_notUnit
  dsimp only
  unfold dl_u at h
  by_cases h1 : g < 1
  · rw [if_pos h1] at h
    exact br_t h1 h
  · rw [if_neg h1] at h
    by_cases h2 : g < 7
    · rw [if_pos h2] at h
      exact br_f h1 (br_t h2 h)
    · rw [if_neg h2] at h
      exact br_f h1 (br_f h2 h)

theorem dl_of29 {post : Int32 → Prop} {J7 : Int32 → Int32 → Prop} {a3 a4 : Nat → Int32} {x1 x3 x4 x2 : Int32} (hv : vp_in x3 5) (h1 : dl_T x3.toNatClampNeg = 1) (h4 : ¬ x4 = 0) (hJ : J7 (if dl_P x1 (x2 / x4) = 1 then x2 / x4 else x2) (x3 + 1)) : ∃ fu : Nat, wX_orderOf_29 post J7 x1 x3 x4 7 6 2 dl_B dl_T a3 a4 fu x2 1 0 := by
  refine ⟨2, And.intro hv (br_f (by rw [h1]; decide) (br_f (by decide) ⟨h4, nm_e (dl_pow ?_)⟩))⟩
  by_cases hr : dl_P x1 (x2 / x4) = 1
  · rw [if_pos hr] at hJ
    refine br_t hr ?_
    unfold wX_orderOf_71
    exact br_f (by decide) (nm_r (show (0 : Int32) + 1 = 1 by decide) (And.intro hv (br_t (by rw [h1]; decide) (nm_e hJ))))
  · rw [if_neg hr] at hJ
    refine br_f hr ?_
    unfold wX_orderOf_71
    exact br_t (by decide) (nm_r (show (0 : Int32) + 1 = 1 by decide) (And.intro hv (br_t (by rw [h1]; decide) (nm_e hJ))))

theorem dl_ord {post : Int32 → Prop} {a3 a4 : Nat → Int32} {g : Int32} (h : post (dl_O g)) : wpX_orderOf post (7, 6, 2, dl_B, dl_T, a3, a4) g := by
  unfold wpX_orderOf
  dsimp only
  refine ⟨3, br_f (by decide) ⟨pk_in 0 5 (by decide), nm_r (show dl_B (0 : Int32).toNatClampNeg = 2 by decide) (dl_of29 (pk_in 0 5 (by decide)) (by decide) (by decide) ?_)⟩⟩
  rw [show (6 : Int32) / 2 = 3 by decide, show (0 : Int32) + 1 = 1 by decide]
  show wX_orderOf_7 post g 7 6 2 dl_B dl_T a3 a4 2 (dl_n1 g) 1
  refine br_f (by decide) ⟨pk_in 1 5 (by decide), nm_r (show dl_B (1 : Int32).toNatClampNeg = 3 by decide) (dl_of29 (pk_in 1 5 (by decide)) (by decide) (by decide) ?_)⟩
  rw [show (1 : Int32) + 1 = 2 by decide]
  exact br_t (by decide) h

theorem dl_order {post : Int32 → Prop} {a3 a4 : Nat → Int32} {g : Int32} (h : post (dl_vo g)) : wpX_order post (7, 6, 2, dl_B, dl_T, a3, a4) g := by
  unfold wpX_order
  dsimp only
  refine dl_nu ?_
  unfold dl_vo at h
  by_cases hu : dl_u g = 0
  · rw [if_pos hu] at h
    exact br_t hu (dl_ord h)
  · rw [if_neg hu] at h
    exact br_f hu h

theorem dl_inverse {post : Int32 → Prop} {a3 a4 : Nat → Int32} {g : Int32} (h : post (dl_vi g)) : wpX_inverse post (7, 6, 2, dl_B, dl_T, a3, a4) g := by
  unfold wpX_inverse
  dsimp only
  refine dl_nu ?_
  unfold dl_vi at h
  by_cases hu : dl_u g = 0
  · rw [if_pos hu] at h
    exact br_t hu (dl_inv h)
  · rw [if_neg hu] at h
    exact br_f hu h

theorem dl_common {post : Int32 → Prop} {a3 a4 : Nat → Int32} {g k : Int32} (h : post (dl_vc g k)) : wpX_common post (7, 6, 2, dl_B, dl_T, a3, a4) g k := by
  unfold wpX_common
  dsimp only
  refine dl_nu ?_
  unfold dl_vc at h
  by_cases hu : dl_u g = 0
  · rw [if_pos hu] at h
    refine br_t hu (dl_nu ?_)
    by_cases hk : dl_u k = 0
    · rw [if_pos hk] at h
      exact br_t hk (dl_ord (dl_ord (dl_gcd h)))
    · rw [if_neg hk] at h
      exact br_f hk h
  · rw [if_neg hu] at h
    exact br_f hu h

theorem dl_roots {post : Int32 → Prop} {a3 a4 : Nat → Int32} {g : Int32} (h : post (dl_vr g)) : wpX_roots post (7, 6, 2, dl_B, dl_T, a3, a4) g 2 := by
  unfold wpX_roots
  dsimp only
  unfold wpX_badRoot
  dsimp only
  refine dl_nu ?_
  unfold dl_vr at h
  by_cases hu : dl_u g = 0
  · rw [if_pos hu] at h
    refine br_t hu (br_f (by decide) (br_t (by decide) (br_t rfl (dl_gcd ?_))))
    rw [show dl_G 2 6 = 2 by decide +kernel]
    refine br_t (by decide) ⟨by decide, ?_⟩
    rw [show (6 : Int32) / 2 = 3 by decide]
    refine dl_pow ?_
    by_cases hr : dl_P g 3 = 1
    · rw [if_pos hr] at h
      exact br_t hr h
    · rw [if_neg hr] at h
      exact br_f hr h
  · rw [if_neg hu] at h
    exact br_f hu (br_f (by decide) h)

def dl_t1 (d : Int32) : Int32 := if d - d / 2 * 2 = 0 then d / 2 * (2 - 1) else d
def dl_t2 (d : Int32) : Int32 := if d - d / 3 * 3 = 0 then dl_t1 d / 3 * (3 - 1) else dl_t1 d

theorem dl_tot4 {post : Int32 → Prop} {a3 a4 : Nat → Int32} {d x2 x3 q : Int32} {n : Nat} (hf : ¬ 2 ≤ x3) (hv : vp_in x3 5) (hq : dl_B x3.toNatClampNeg = q) (h0 : ¬ q = 0) (h : wX_totient_4 post d 7 6 2 dl_B dl_T a3 a4 n (if d - d / q * q = 0 then x2 / q * (q - 1) else x2) (x3 + 1)) : wX_totient_4 post d 7 6 2 dl_B dl_T a3 a4 (n + 1) x2 x3 := by
  subst hq
  by_cases hc : d - d / dl_B x3.toNatClampNeg * dl_B x3.toNatClampNeg = 0
  · rw [if_pos hc] at h
    exact br_f hf ⟨hv, h0, br_t hc ⟨hv, h0, hv, nm_e (nm_e h)⟩⟩
  · rw [if_neg hc] at h
    exact br_f hf ⟨hv, h0, br_f hc (nm_e h)⟩

theorem dl_tot {post : Int32 → Prop} {a3 a4 : Nat → Int32} {d : Int32} (h : post (dl_t2 d)) : wpX_totient post (7, 6, 2, dl_B, dl_T, a3, a4) d := by
  unfold wpX_totient
  dsimp only
  refine ⟨3, dl_tot4 (q := 2) (by decide) (pk_in 0 5 (by decide)) (by decide) (by decide) ?_⟩
  rw [show (0 : Int32) + 1 = 1 by decide]
  refine dl_tot4 (q := 3) (by decide) (pk_in 1 5 (by decide)) (by decide) (by decide) ?_
  rw [show (1 : Int32) + 1 = 2 by decide]
  exact br_t (by decide) h

theorem dl_gens {post : Int32 → Prop} {a3 a4 : Nat → Int32} (h : post 2) : wpX_generators post (7, 6, 2, dl_B, dl_T, a3, a4) := by
  unfold wpX_generators
  dsimp only
  refine dl_tot ?_
  rw [show dl_t2 6 = 2 by decide +kernel]
  exact h

def dl_ge (g : Int32) : Int32 := if dl_P g 3 = 1 then 0 else if dl_P g 2 = 1 then 0 else 1

theorem dl_gen2 {post : Int32 → Prop} {a3 a4 : Nat → Int32} {g : Int32} (h : post (dl_ge g)) : wpX_generates post (7, 6, 2, dl_B, dl_T, a3, a4) g := by
  unfold wpX_generates
  dsimp only
  unfold dl_ge at h
  refine ⟨3, br_f (by decide) ⟨pk_in 0 5 (by decide), by decide, ?_⟩⟩
  rw [show (6 : Int32) / dl_B (0 : Int32).toNatClampNeg = 3 by decide]
  refine dl_pow ?_
  by_cases h3 : dl_P g 3 = 1
  · rw [if_pos h3] at h
    exact br_t h3 h
  · rw [if_neg h3] at h
    refine br_f h3 (nm_r (show (0 : Int32) + 1 = 1 by decide) (br_f (by decide) ⟨pk_in 1 5 (by decide), by decide, ?_⟩))
    rw [show (6 : Int32) / dl_B (1 : Int32).toNatClampNeg = 2 by decide]
    refine dl_pow ?_
    by_cases h2 : dl_P g 2 = 1
    · rw [if_pos h2] at h
      exact br_t h2 h
    · rw [if_neg h2] at h
      exact br_f h2 (nm_r (show (1 : Int32) + 1 = 2 by decide) (br_t (by decide) h))

theorem dl_gen {post : Int32 → Prop} {a3 a4 : Nat → Int32} (h : post 3) : wpX_generator post (7, 6, 2, dl_B, dl_T, a3, a4) := by
  unfold wpX_generator
  dsimp only
  refine ⟨3, br_f (by decide) (br_f (by decide) (dl_gen2 (br_t (by decide +kernel) (nm_r (show (1 : Int32) + 1 = 2 by decide) ?_))))⟩
  refine br_f (by decide) (br_f (by decide) (dl_gen2 (br_t (by decide +kernel) (nm_r (show (2 : Int32) + 1 = 3 by decide) ?_))))
  exact br_f (by decide) (br_f (by decide) (dl_gen2 (br_f (by decide +kernel) h)))

theorem dl_t2s : ∀ j : Nat, j < 6 → (6 - 6 / nI (j + 1) * nI (j + 1) = 0 → dl_t2 (nI (j + 1)) = dl_many (nI (j + 1))) ∧ (¬ 6 - 6 / nI (j + 1) * nI (j + 1) = 0 → 0 = dl_many (nI (j + 1))) := by decide +kernel

theorem dl_six {g : Int32} (h1 : ¬ g < 1) (h6 : ¬ 6 < g) : ∃ j : Nat, j < 6 ∧ g = nI (j + 1) := by
  have h0 : ¬ g < 0 := by
    intro z
    exact h1 (Int32.lt_trans z (by decide))
  have h6' : g ≤ 6 := Int32.not_lt.mp h6
  obtain ⟨j, hj, e⟩ := nI_of2 (M := 6) (n := 6) (by decide) h0 h6'
  rw [e] at h1
  cases j with
  | zero => exact absurd (by decide) h1
  | succ j => exact ⟨j, by omega, e⟩

theorem dl_out {n : Int32} (h : n < 1 ∨ 6 < n) (k : Nat) (hk : k < 6) : ¬ n = nI (k + 1) := by
  intro e
  have t : ∀ k : Nat, k < 6 → ¬ nI (k + 1) < 1 ∧ ¬ 6 < nI (k + 1) := by decide +kernel
  rw [e] at h
  exact h.elim (t k hk).1 (t k hk).2

theorem dl_many0 {n : Int32} (h : n < 1 ∨ 6 < n) : dl_many n = 0 := by
  unfold dl_many
  have n1 : ¬ n = 1 := dl_out h 0 (by decide)
  have n2 : ¬ n = 2 := dl_out h 1 (by decide)
  have n3 : ¬ n = 3 := dl_out h 2 (by decide)
  have n6 : ¬ n = 6 := dl_out h 5 (by decide)
  rw [if_neg n1, if_neg n2, if_neg n3, if_neg n6]

theorem dl_units {post : Int32 → Prop} {a3 a4 : Nat → Int32} {n : Int32} (h : post (dl_many n)) : wpX_unitsOfOrder post (7, 6, 2, dl_B, dl_T, a3, a4) n := by
  unfold wpX_unitsOfOrder
  dsimp only
  refine br_c (fun z => ?_) (fun h1 => br_c (fun z => ?_) (fun h6 => ⟨?_, br_c (fun hr => dl_tot ?_) (fun hr => ?_)⟩))
  · rw [dl_many0 (Or.inl z)] at h
    exact h
  · rw [dl_many0 (Or.inr z)] at h
    exact h
  · intro e
    rw [e] at h1
    exact h1 (by decide)
  · obtain ⟨j, hj, e⟩ := dl_six h1 h6
    rw [e] at h hr
    rw [e, (dl_t2s j hj).1 hr]
    exact h
  · obtain ⟨j, hj, e⟩ := dl_six h1 h6
    rw [e] at h hr
    rw [(dl_t2s j hj).2 hr]
    exact h
end
section
/-! logarithms -/
def dl_c (x : Int32) : Nat := ((x * 37) &&& 127).toNatClampNeg
def dl_SL (g h : Int32) : Int32 := if h = 1 then 0 else if h = g then 1 else 2
/-- what a small logarithm asks of its base and its number: their cells lie apart -/
abbrev dl_ok (g h : Int32) : Prop := dl_m 1 g = g ∧ ¬ g = 0 ∧ (g * 37) &&& 127 = nI (dl_c g) ∧ (h * 37) &&& 127 = nI (dl_c h) ∧ dl_c g < 128 ∧ dl_c h < 128 ∧ ¬ dl_c g = 37 ∧ (h = 1 ∨ (¬ h = 1 ∧ h = g) ∨ (¬ h = 1 ∧ ¬ h = g ∧ ¬ h = 0 ∧ ¬ dl_c h = 37 ∧ ¬ dl_c h = dl_c g ∧ dl_m h (dl_P (dl_m g g) 5) = 1))
def dl_PL (g h : Int32) : Int32 := dl_SL (dl_P g 1) (dl_P (dl_m h (dl_P (dl_P g 5) 0)) 1)
abbrev dl_okP (g h : Int32) : Prop := dl_ok (dl_P g 1) (dl_P (dl_m h (dl_P (dl_P g 5) 0)) 1)

theorem dl_fill {s : Nat → Int32} {i : Nat} (h : ∀ j, j < i → s j = 0) : ∀ j, j < i + 1 → upd s i 0 j = 0 := by
  intro j hj
  by_cases e : j = i
  · rw [e, pk_us]
  · rw [pk_un e]
    exact h j (by omega)

theorem dl_clear {post : St2 → Prop} {a3 a4 : Nat → Int32} (H : ∀ k : Nat → Int32, (∀ j, j < 128 → k j = 0) → post (7, 6, 2, dl_B, dl_T, k, a4)) : wpX_clearTable post (7, 6, 2, dl_B, dl_T, a3, a4) := by
  unfold wpX_clearTable
  dsimp only
  exact pk_loop (fun n i s => wX_clearTable_2 post 7 6 2 n (nI i) dl_B dl_T s a4) (fun i s => ∀ j, j < i → s j = 0) 128 0 a3 (by omega) (fun j hj => absurd hj (by omega))
    (fun n s h => pk_le 128 128 (fun _ => H s h) (fun z => absurd z (by omega)))
    (fun n i s hi h hw => pk_le 128 i (fun z => absurd z (by omega)) (fun _ => ⟨pk_in i 128 hi, nm_r (by rw [nI_clamp (by omega)]) (nm_r (nI_1 i) (hw _ (dl_fill h)))⟩))

theorem dl_root {post : Int32 → Prop} {a3 a4 : Nat → Int32} {q : Int32} (h1 : ¬ q ≤ 1 * 1) (h2 : q ≤ 2 * 2) (h : post 2) : wpX_rootUp post (7, 6, 2, dl_B, dl_T, a3, a4) q := by
  unfold wpX_rootUp
  dsimp only
  exact ⟨2, br_f (by decide) (br_f h1 (nm_r (show (1 : Int32) + 1 = 2 by decide) (nm_r (show (0 : Int32) + 1 = 1 by decide) (br_f (by decide) (br_t h2 h)))))⟩

theorem dl_cell {post : Int32 → Prop} {k s : Nat → Int32} {x : Int32} {c : Nat} (e : (x * 37) &&& 127 = nI c) (hc : c < 128) (hk : k c = 0 ∨ (¬ k c = 0 ∧ k c = x)) (h : post (nI c)) : wpX_cellOf post (7, 6, 2, dl_B, dl_T, k, s) x := by
  unfold wpX_cellOf
  dsimp only
  refine nm_r e ⟨1, br_f (by decide) ⟨pk_in c 128 hc, ?_⟩⟩
  rw [nI_clamp (show c < 2 ^ 31 by omega)]
  rcases hk with z | ⟨z, y⟩
  · exact br_t z h
  · exact br_f z ⟨pk_in c 128 hc, br_t y h⟩

theorem dl_ins {post : Int32 → St2 → Prop} {k s : Nat → Int32} {g h x j j' : Int32} {c n : Nat} (e : (x * 37) &&& 127 = nI c) (hc : c < 128) (hk : k c = 0) (hj : ¬ 2 ≤ j) (ej : j + 1 = j') (H : wX_smallLog_17 post g h 2 7 6 2 n (dl_m x g) j' dl_B dl_T (upd k c x) (upd s c j)) : wX_smallLog_17 post g h 2 7 6 2 (n + 1) x j dl_B dl_T k s := by
  refine br_f hj (dl_cell e hc (Or.inl hk) ⟨pk_in c 128 hc, ?_⟩)
  rw [nI_clamp (show c < 2 ^ 31 by omega)]
  refine br_t hk ⟨pk_in c 128 hc, nm_e ⟨pk_in c 128 hc, nm_e ?_⟩⟩
  unfold wX_smallLog_60
  exact dl_mul (nm_r ej H)

theorem dl_hit {post : Int32 → St2 → Prop} {k s : Nat → Int32} {b x i : Int32} {c n : Nat} (e : (x * 37) &&& 127 = nI c) (hc : c < 128) (h0 : ¬ k c = 0) (hk : k c = x) (hi : ¬ 2 ≤ i) (H : post (i * 2 + s c) (7, 6, 2, dl_B, dl_T, k, s)) : wX_smallLog_89 post 2 b 7 6 2 dl_B dl_T k s (n + 1) x i := by
  refine br_f hi (dl_cell e hc (Or.inr ⟨h0, hk⟩) ⟨pk_in c 128 hc, ?_⟩)
  rw [nI_clamp (show c < 2 ^ 31 by omega)]
  exact br_t hk ⟨pk_in c 128 hc, H⟩

theorem dl_miss {post : Int32 → St2 → Prop} {k s : Nat → Int32} {b x i i' : Int32} {c n : Nat} (e : (x * 37) &&& 127 = nI c) (hc : c < 128) (h0 : k c = 0) (hx : ¬ x = 0) (hi : ¬ 2 ≤ i) (ei : i + 1 = i') (H : wX_smallLog_89 post 2 b 7 6 2 dl_B dl_T k s n (dl_m x b) i') : wX_smallLog_89 post 2 b 7 6 2 dl_B dl_T k s (n + 1) x i := by
  refine br_f hi (dl_cell e hc (Or.inl h0) ⟨pk_in c 128 hc, ?_⟩)
  rw [nI_clamp (show c < 2 ^ 31 by omega)]
  refine br_f (fun z => ?_) (dl_mul (nm_r ei H))
  rw [h0] at z
  exact hx z.symm

theorem dl_small {post : Int32 → St2 → Prop} {a3 a4 : Nat → Int32} {g h q : Int32} (q1 : ¬ q ≤ 1 * 1) (q2 : q ≤ 2 * 2) (ok : dl_ok g h) (H : ∀ k s : Nat → Int32, post (dl_SL g h) (7, 6, 2, dl_B, dl_T, k, s)) : wpX_smallLog post (7, 6, 2, dl_B, dl_T, a3, a4) g h q := by
  obtain ⟨m1, g0, eg, eh, cg, ch, c37, hcs⟩ := ok
  unfold wpX_smallLog
  dsimp only
  refine dl_clear (fun k hk => dl_root q1 q2 ⟨3, ?_⟩)
  refine dl_ins (c := 37) (j' := 1) (by decide) (by decide) (hk 37 (by decide)) (by decide) (by decide) ?_
  rw [m1]
  refine dl_ins (c := dl_c g) (j' := 2) eg cg (by rw [pk_un c37]; exact hk _ cg) (by decide) (by decide) ?_
  refine br_t (by decide) (dl_inv ⟨2, ?_⟩)
  have K1 : upd (upd k 37 1) (dl_c g) g 37 = 1 := by rw [pk_un (fun z => c37 z.symm), pk_us]
  have S1 : upd (upd a4 37 0) (dl_c g) 1 37 = 0 := by rw [pk_un (fun z => c37 z.symm), pk_us]
  have Kg : upd (upd k 37 1) (dl_c g) g (dl_c g) = g := pk_us
  have Sg : upd (upd a4 37 0) (dl_c g) 1 (dl_c g) = 1 := pk_us
  unfold dl_SL at H
  rcases hcs with z | ⟨z, y⟩ | ⟨z, y, h0, d37, dg, eb⟩
  · rw [if_pos z] at H
    rw [z]
    refine dl_hit (c := 37) (by decide) (by decide) (by rw [K1]; decide) K1 (by decide) ?_
    rw [S1, show (0 : Int32) * 2 + 0 = 0 by decide]
    exact H _ _
  · rw [if_neg z, if_pos y] at H
    rw [y]
    refine dl_hit (c := dl_c g) eg cg (by rw [Kg]; exact g0) Kg (by decide) ?_
    rw [Sg, show (0 : Int32) * 2 + 1 = 1 by decide]
    exact H _ _
  · rw [if_neg z, if_neg y] at H
    refine dl_miss (c := dl_c h) (i' := 1) eh ch (by rw [pk_un dg, pk_un d37]; exact hk _ ch) h0 (by decide) (by decide) ?_
    rw [eb]
    refine dl_hit (c := 37) (by decide) (by decide) (by rw [K1]; decide) K1 (by decide) ?_
    rw [S1, show (1 : Int32) * 2 + 0 = 2 by decide]
    exact H _ _

theorem dl_pl54 {post : Int32 → St2 → Prop} {a3 a4 : Nat → Int32} {h q r b : Int32} (q1 : ¬ q ≤ 1 * 1) (q2 : q ≤ 2 * 2) (q3 : ¬ q ≤ 0) (q4 : ¬ q = 0) (ok : dl_ok r (dl_P (dl_m h (dl_P b 0)) 1)) (H : ∀ k s : Nat → Int32, post (dl_SL r (dl_P (dl_m h (dl_P b 0)) 1)) (7, 6, 2, dl_B, dl_T, k, s)) : wX_powerLog_54 post h q 1 r b 2 0 1 1 0 7 6 2 dl_B dl_T a3 a4 := by
  refine br_f (by decide) (dl_pow (dl_mul (dl_pow (dl_small q1 q2 ok (fun k s => ?_)))))
  refine nm_r (show (0 : Int32) + dl_SL r (dl_P (dl_m h (dl_P b 0)) 1) * 1 = dl_SL r (dl_P (dl_m h (dl_P b 0)) 1) by rw [Int32.mul_one, Int32.zero_add]) (nm_e (br_f q3 ⟨q4, nm_e (nm_r (show (0 : Int32) + 1 = 1 by decide) (br_t (by decide) (H k s)))⟩))

theorem dl_plog {post : Int32 → St2 → Prop} {a3 a4 : Nat → Int32} {g h q : Int32} (q1 : ¬ q ≤ 1 * 1) (q2 : q ≤ 2 * 2) (q3 : ¬ q ≤ 0) (q4 : ¬ q = 0) (ok : dl_okP g h) (H : ∀ k s : Nat → Int32, post (dl_PL g h) (7, 6, 2, dl_B, dl_T, k, s)) : wpX_powerLog post (7, 6, 2, dl_B, dl_T, a3, a4) g h q 1 := by
  unfold wpX_powerLog
  dsimp only
  exact ⟨1, br_t (by decide) (dl_pow (dl_inv ⟨2, dl_pl54 q1 q2 q3 q4 ok H⟩))⟩

def dl_pt (g h n q : Int32) : Int32 := dl_PL (dl_P g (n / q)) (dl_P h (n / q))
abbrev dl_okT (g h n q : Int32) : Prop := dl_okP (dl_P g (n / q)) (dl_P h (n / q))

theorem dl_it {post : Int32 → St2 → Prop} {a3 a4 : Nat → Int32} {g h n q x m f f' : Int32} {k : Nat} (hf : ¬ 2 ≤ f) (hv : vp_in f 5) (hB : dl_B f.toNatClampNeg = q) (ef : f + 1 = f')
    (q1 : ¬ q ≤ 1 * 1) (q2 : q ≤ 2 * 2) (q3 : ¬ q ≤ 0) (q4 : ¬ q = 0) (q5 : ¬ q * q = 0) (q6 : 1 ≤ q) (q7 : ¬ q.toInt64 = 0)
    (hc : n - n / q * q = 0 → ¬ n - n / (q * q) * (q * q) = 0 ∧ dl_okT g h n q)
    (H : ∀ k1 s1 : Nat → Int32, wX_leastLog_32 post g h n k (if n - n / q * q = 0 then dl_J x m (dl_pt g h n q) q else x) (if n - n / q * q = 0 then m * q else m) f' 7 6 2 dl_B dl_T k1 s1) :
    wX_leastLog_32 post g h n (k + 1) x m f 7 6 2 dl_B dl_T a3 a4 := by
  refine br_f hf ⟨hv, nm_r hB ⟨2, br_f (by decide) ⟨by rw [Int32.one_mul]; exact q4, ?_⟩⟩⟩
  by_cases hr : n - n / q * q = 0
  · simp only [if_pos hr] at H
    obtain ⟨h2, ok⟩ := hc hr
    refine br_t (by rw [Int32.one_mul]; exact hr) (nm_r (Int32.one_mul q) (nm_r (show (0 : Int32) + 1 = 1 by decide) (nm_r (show (0 : Int32) + 1 = 1 by decide) (br_f (by decide) ⟨q5, br_f h2 ?_⟩))))
    unfold wX_leastLog_92
    refine br_f (by decide) ⟨q4, dl_pow ⟨q4, dl_pow (dl_plog q1 q2 q3 q4 ok (fun k1 s1 => dl_join q3 q4 q6 q7 ?_))⟩⟩
    exact nm_e (nm_r ef (H k1 s1))
  · simp only [if_neg hr] at H
    refine br_f (by rw [Int32.one_mul]; exact hr) ?_
    unfold wX_leastLog_92
    exact br_t (by decide) (nm_r ef (H _ _))

def dl_x1 (g h n : Int32) : Int32 := if n - n / 2 * 2 = 0 then dl_J 0 1 (dl_pt g h n 2) 2 else 0
def dl_m1 (n : Int32) : Int32 := if n - n / 2 * 2 = 0 then 1 * 2 else 1
def dl_x2 (g h n : Int32) : Int32 := if n - n / 3 * 3 = 0 then dl_J (dl_x1 g h n) (dl_m1 n) (dl_pt g h n 3) 3 else dl_x1 g h n
def dl_L (g h : Int32) : Int32 := if dl_P h (dl_O g) = 1 then dl_x2 g h (dl_O g) else -4
abbrev dl_okL (g h : Int32) : Prop := dl_P h (dl_O g) = 1 → (dl_O g - dl_O g / 2 * 2 = 0 → ¬ dl_O g - dl_O g / (2 * 2) * (2 * 2) = 0 ∧ dl_okT g h (dl_O g) 2) ∧ (dl_O g - dl_O g / 3 * 3 = 0 → ¬ dl_O g - dl_O g / (3 * 3) * (3 * 3) = 0 ∧ dl_okT g h (dl_O g) 3)

theorem dl_least {post : Int32 → St2 → Prop} {a3 a4 : Nat → Int32} {g h : Int32} (ok : dl_okL g h) (H : ∀ k s : Nat → Int32, post (dl_L g h) (7, 6, 2, dl_B, dl_T, k, s)) : wpX_leastLog post (7, 6, 2, dl_B, dl_T, a3, a4) g h := by
  unfold wpX_leastLog
  dsimp only
  refine dl_ord (dl_pow ?_)
  unfold dl_L at H
  by_cases hr : dl_P h (dl_O g) = 1
  · simp only [if_pos hr] at H
    refine br_t hr ⟨3, ?_⟩
    refine dl_it (q := 2) (f' := 1) (by decide) (pk_in 0 5 (by decide)) (by decide) (by decide) (by decide) (by decide) (by decide) (by decide) (by decide) (by decide) (by decide) (ok hr).1 (fun k1 s1 => ?_)
    refine dl_it (q := 3) (f' := 2) (by decide) (pk_in 1 5 (by decide)) (by decide) (by decide) (by decide) (by decide) (by decide) (by decide) (by decide) (by decide) (by decide) (ok hr).2 (fun k2 s2 => ?_)
    exact br_t (by decide) (H k2 s2)
  · simp only [if_neg hr] at H
    exact br_f hr (H _ _)

def dl_vl (g h : Int32) : Int32 := if dl_u g = 0 then (if dl_u h = 0 then dl_L g h else -1) else -1

theorem dl_log {post : Int32 → St2 → Prop} {a3 a4 : Nat → Int32} {g h : Int32} (ok : dl_u g = 0 → dl_u h = 0 → dl_okL g h) (H : ∀ k s : Nat → Int32, post (dl_vl g h) (7, 6, 2, dl_B, dl_T, k, s)) : wpX_log post (7, 6, 2, dl_B, dl_T, a3, a4) g h := by
  unfold wpX_log
  dsimp only
  refine dl_nu ?_
  unfold dl_vl at H
  by_cases hg : dl_u g = 0
  · simp only [if_pos hg] at H
    refine br_t hg (dl_nu ?_)
    by_cases hh : dl_u h = 0
    · simp only [if_pos hh] at H
      exact br_t hh (dl_least (ok hg hh) H)
    · simp only [if_neg hh] at H
      exact br_f hh (H _ _)
  · simp only [if_neg hg] at H
    exact br_f hg (H _ _)
end
section
/-! the law's own functions and its last check -/
def dl_ix (g : Int32) : Int32 := if g = 3 then 1 else if g = 2 then 2 else if g = 6 then 3 else if g = 4 then 4 else if g = 5 then 5 else 0
def dl_lo (g : Int32) : Int32 := if dl_ix g = 0 then 1 else if dl_ix g = 3 then 2 else if (dl_ix g &&& 1) = 0 then 3 else 6
def dl_hs (g h x : Int32) : Int32 := if ((dl_ix g * x + 6) - dl_ix h) - ((dl_ix g * x + 6) - dl_ix h) / 6 * 6 = 0 then 1 else 0
def dl_du (g h z : Int32) : Int32 := if z = 0 then -1 else if h = 1 then 0 else if dl_hs g h 1 = 0 then (if dl_hs g h 2 = 0 then (if dl_hs g h 3 = 0 then (if dl_hs g h 4 = 0 then (if dl_hs g h 5 = 0 then -4 else 5) else 4) else 3) else 2) else 1
def dl_sh (a b : Int32) : Int32 := if a = 1 then 1 else if b = 1 then 1 else if a = b then a else if a = 6 then b else if b = 6 then a else 1

theorem dl_index {post : Int32 → Prop} {g : Int32} (h : post (dl_ix g)) : wpL_index post () g := by
  unfold wpL_index
  unfold dl_ix at h
  refine br_c (fun z => ?_) (fun z => ?_)
  · rw [if_pos z] at h
    exact h
  rw [if_neg z] at h
  refine br_c (fun z => ?_) (fun z => ?_)
  · rw [if_pos z] at h
    exact h
  rw [if_neg z] at h
  refine br_c (fun z => ?_) (fun z => ?_)
  · rw [if_pos z] at h
    exact h
  rw [if_neg z] at h
  refine br_c (fun z => ?_) (fun z => ?_)
  · rw [if_pos z] at h
    exact h
  rw [if_neg z] at h
  refine br_c (fun z => ?_) (fun z => ?_)
  · rw [if_pos z] at h
    exact h
  rw [if_neg z] at h
  exact h

theorem dl_lorder {post : Int32 → Prop} {g : Int32} (h : post (dl_lo g)) : wpL_order post () g := by
  unfold wpL_order
  refine dl_index ?_
  unfold dl_lo at h
  refine br_c (fun z => ?_) (fun z => ?_)
  · rw [if_pos z] at h
    exact h
  rw [if_neg z] at h
  refine br_c (fun z => ?_) (fun z => ?_)
  · rw [if_pos z] at h
    exact h
  rw [if_neg z] at h
  refine br_c (fun z => ?_) (fun z => ?_)
  · rw [if_pos z] at h
    exact h
  rw [if_neg z] at h
  exact h

theorem dl_hits {post : Int32 → Prop} {g h x : Int32} (H : post (dl_hs g h x)) : wpL_hits post () g h x := by
  unfold wpL_hits
  refine dl_index (dl_index ⟨by decide, ?_⟩)
  unfold dl_hs at H
  refine br_c (fun z => ?_) (fun z => ?_)
  · rw [if_pos z] at H
    exact H
  · rw [if_neg z] at H
    exact H

/-- what the last check asks of the answers -/
abbrev dl_good (g h x5 x6 x7 x8 x9 x13 x14 x15 : Int32) : Prop :=
  x5 = (if x13 = 0 then -1 else dl_lo g) ∧ x6 = dl_du g h x15 ∧
  ((x13 = 0 ∧ x7 = -1) ∨ (¬ x13 = 0 ∧ (dl_ix x7 + dl_ix g) - (dl_ix x7 + dl_ix g) / 6 * 6 = 0 ∧ ¬ x7 < 1 ∧ ¬ 6 < x7)) ∧
  x8 = (if x15 = 0 then -1 else dl_sh (dl_lo g) (dl_lo h)) ∧
  x9 = (if x14 = 0 then -1 else if dl_ix h - dl_ix h / 2 * 2 = 0 then 2 else 0)

section
variable {post : Int32 → St0 → Prop} {mc ms kc ks : Nat}

theorem dl_393 (hp : post 1 ()) {n x12 z : Int32} (h12 : x12 = dl_many n) : wL_lawOf_393 post mc ms n 2 3 x12 z z kc ks := by
  unfold wL_lawOf_393 wL_lawOf_420 wL_lawOf_435 wL_lawOf_440
  refine br_t rfl (br_t rfl (br_t rfl ?_))
  unfold dl_many at h12
  refine br_c (fun z => ?_) (fun z => ?_)
  · rw [if_pos z] at h12
    exact br_t h12 hp
  rw [if_neg z] at h12
  refine br_c (fun z => ?_) (fun z => ?_)
  · rw [if_pos z] at h12
    exact br_t h12 hp
  rw [if_neg z] at h12
  refine br_c (fun z => ?_) (fun z => ?_)
  · rw [if_pos z] at h12
    exact br_t h12 hp
  rw [if_neg z] at h12
  refine br_c (fun z => ?_) (fun z => ?_)
  · rw [if_pos z] at h12
    exact br_t h12 hp
  rw [if_neg z] at h12
  exact br_t h12 hp

theorem dl_365 (hp : post 1 ()) {h n x9 x12 x14 z : Int32} (h12 : x12 = dl_many n) (h9 : x9 = (if x14 = 0 then -1 else if dl_ix h - dl_ix h / 2 * 2 = 0 then 2 else 0)) : wL_lawOf_365 post mc ms h n x9 2 3 x12 x14 z z kc ks := by
  unfold wL_lawOf_365
  refine br_t rfl (br_c (fun c => ?_) (fun c => dl_index ⟨by decide, br_c (fun d => ?_) (fun d => ?_)⟩))
  · rw [h9, if_pos c]
    exact dl_393 hp h12
  · rw [h9, if_neg c, if_pos d]
    exact dl_393 hp h12
  · rw [h9, if_neg c, if_neg d]
    exact dl_393 hp h12

theorem dl_299 (hp : post 1 ()) {g h n x6 x7 x8 x9 x12 x13 x14 x15 x16 x19 z : Int32} (h12 : x12 = dl_many n) (h6 : x6 = x16)
    (h7 : (x13 = 0 ∧ x7 = -1) ∨ (¬ x13 = 0 ∧ (dl_ix x7 + dl_ix g) - (dl_ix x7 + dl_ix g) / 6 * 6 = 0 ∧ ¬ x7 < 1 ∧ ¬ 6 < x7))
    (h8 : x8 = (if x15 = 0 then -1 else x19)) (h9 : x9 = (if x14 = 0 then -1 else if dl_ix h - dl_ix h / 2 * 2 = 0 then 2 else 0)) :
    wL_lawOf_299 post mc ms g h n x6 x7 x8 x9 2 3 x12 x13 x14 x15 x16 x19 z z kc ks := by
  have t : wL_lawOf_352 post mc ms h n x8 x9 2 3 x12 x14 x15 x19 kc ks := by
    unfold wL_lawOf_352
    refine br_c (fun c => ?_) (fun c => ?_)
    · rw [h8, if_pos c]
      exact dl_365 hp h12 h9
    · rw [h8, if_neg c]
      exact dl_365 hp h12 h9
  unfold wL_lawOf_299
  refine br_t rfl (br_t h6 ?_)
  rcases h7 with ⟨c, d⟩ | ⟨c, d, e, f⟩
  · exact br_t c (br_t d t)
  · exact br_f c (dl_index (dl_index ⟨by decide, br_t d (br_f e (br_f f t))⟩))

theorem dl_278 (hp : post 1 ()) {g h n x5 x6 x7 x8 x9 x12 x13 x14 x15 x16 x17 x19 : Int32} (h12 : x12 = dl_many n) (h5 : x5 = (if x13 = 0 then -1 else x17)) (h6 : x6 = x16)
    (h7 : (x13 = 0 ∧ x7 = -1) ∨ (¬ x13 = 0 ∧ (dl_ix x7 + dl_ix g) - (dl_ix x7 + dl_ix g) / 6 * 6 = 0 ∧ ¬ x7 < 1 ∧ ¬ 6 < x7))
    (h8 : x8 = (if x15 = 0 then -1 else x19)) (h9 : x9 = (if x14 = 0 then -1 else if dl_ix h - dl_ix h / 2 * 2 = 0 then 2 else 0)) :
    wL_lawOf_278 post mc ms g h n 3 x5 x6 x7 x8 x9 2 3 x12 x13 x14 x15 x16 x17 x19 kc ks := by
  unfold wL_lawOf_278
  refine br_t rfl (br_c (fun c => ?_) (fun c => ?_))
  · rw [h5, if_pos c]
    exact dl_299 hp h12 h6 h7 h8 h9
  · rw [h5, if_neg c]
    exact dl_299 hp h12 h6 h7 h8 h9

theorem dl_211 (hp : post 1 ()) {g h n x5 x6 x7 x8 x9 x12 x13 x14 x15 : Int32} (h12 : x12 = dl_many n) (H : dl_good g h x5 x6 x7 x8 x9 x13 x14 x15) :
    wL_lawOf_211 post mc ms g h n 3 x5 x6 x7 x8 x9 2 3 x12 x13 x14 x15 (dl_du g h x15) kc ks := by
  obtain ⟨h5, h6, h7, h8, h9⟩ := H
  unfold wL_lawOf_211 wL_lawOf_237
  refine dl_lorder (dl_lorder ?_)
  unfold dl_sh at h8
  refine br_c (fun z => ?_) (fun z => ?_)
  · rw [if_pos z] at h8
    exact dl_278 hp h12 h5 h6 h7 h8 h9
  rw [if_neg z] at h8
  refine br_c (fun z => ?_) (fun z => ?_)
  · rw [if_pos z] at h8
    exact dl_278 hp h12 h5 h6 h7 h8 h9
  rw [if_neg z] at h8
  refine br_c (fun z => ?_) (fun z => ?_)
  · rw [if_pos z] at h8
    exact dl_278 hp h12 h5 h6 h7 h8 h9
  rw [if_neg z] at h8
  refine br_c (fun z => ?_) (fun z => ?_)
  · rw [if_pos z] at h8
    exact dl_278 hp h12 h5 h6 h7 h8 h9
  rw [if_neg z] at h8
  refine br_c (fun z => ?_) (fun z => ?_)
  · rw [if_pos z] at h8
    exact dl_278 hp h12 h5 h6 h7 h8 h9
  rw [if_neg z] at h8
  exact dl_278 hp h12 h5 h6 h7 h8 h9

theorem dl_124 (hp : post 1 ()) {g h n x5 x6 x7 x8 x9 x12 x13 x14 x15 : Int32} (h12 : x12 = dl_many n) (H : dl_good g h x5 x6 x7 x8 x9 x13 x14 x15) :
    wL_lawOf_124 post mc ms g h n 3 x5 x6 x7 x8 x9 2 3 x12 x13 x14 x15 kc ks := by
  have t := dl_211 (post := post) (mc := mc) (ms := ms) (kc := kc) (ks := ks) hp h12 H
  unfold wL_lawOf_124
  unfold dl_du at t
  refine br_c (fun z => ?_) (fun z => ?_)
  · rw [if_pos z] at t
    exact t
  rw [if_neg z] at t
  refine br_c (fun z => ?_) (fun z => ?_)
  · rw [if_pos z] at t
    exact t
  rw [if_neg z] at t
  refine dl_hits (br_c (fun z => ?_) (fun z => ?_))
  rotate_left
  · rw [if_neg z] at t
    exact t
  rw [if_pos z] at t
  refine dl_hits (br_c (fun z => ?_) (fun z => ?_))
  rotate_left
  · rw [if_neg z] at t
    exact t
  rw [if_pos z] at t
  refine dl_hits (br_c (fun z => ?_) (fun z => ?_))
  rotate_left
  · rw [if_neg z] at t
    exact t
  rw [if_pos z] at t
  refine dl_hits (br_c (fun z => ?_) (fun z => ?_))
  rotate_left
  · rw [if_neg z] at t
    exact t
  rw [if_pos z] at t
  refine dl_hits (br_c (fun z => ?_) (fun z => ?_))
  rotate_left
  · rw [if_neg z] at t
    exact t
  rw [if_pos z] at t
  exact t

/-- both numbers in the group, or one of them out: the last check, from its first test on -/
def dl_in (g : Int32) : Int32 := if g < 1 then 0 else if 6 < g then 0 else 1
def dl_bo (a b : Int32) : Int32 := if a = 0 then 0 else if b = 0 then 0 else 1

theorem dl_107 (hp : post 1 ()) {g h n x5 x6 x7 x8 x9 x12 x13 x14 : Int32} (h12 : x12 = dl_many n) (H : dl_good g h x5 x6 x7 x8 x9 x13 x14 (dl_bo x13 x14)) :
    wL_lawOf_107 post mc ms g h n 3 x5 x6 x7 x8 x9 2 3 x12 x13 x14 kc ks := by
  have t := dl_124 (post := post) (mc := mc) (ms := ms) (kc := kc) (ks := ks) hp h12 H
  unfold wL_lawOf_107 wL_lawOf_123
  unfold dl_bo at t
  refine br_c (fun z => ?_) (fun z => ?_)
  · rw [if_pos z] at t
    exact t
  rw [if_neg z] at t
  refine br_c (fun z => ?_) (fun z => ?_)
  · rw [if_pos z] at t
    exact t
  rw [if_neg z] at t
  exact t

theorem dl_89 (hp : post 1 ()) {g h n x5 x6 x7 x8 x9 x12 x13 : Int32} (h12 : x12 = dl_many n) (H : dl_good g h x5 x6 x7 x8 x9 x13 (dl_in h) (dl_bo x13 (dl_in h))) :
    wL_lawOf_89 post mc ms g h n 3 x5 x6 x7 x8 x9 2 3 x12 x13 kc ks := by
  have t := dl_107 (post := post) (mc := mc) (ms := ms) (kc := kc) (ks := ks) hp h12 H
  unfold wL_lawOf_89 wL_lawOf_106
  unfold dl_in at t
  refine br_c (fun z => ?_) (fun z => ?_)
  · rw [if_pos z] at t
    exact t
  rw [if_neg z] at t
  refine br_c (fun z => ?_) (fun z => ?_)
  · rw [if_pos z] at t
    exact t
  rw [if_neg z] at t
  exact t
end
end
section
/-! the two factorings, the tables and the owed statement -/
theorem dl_fs {post : St2 → Prop} {p o x1 x1' q q' f f' : Int32} {k n : Nat} {a1 a2 a3 a4 : Nat → Int32} (h1 : ¬ 2039 < q) (h2 : ¬ x1 ≤ 1) (h3 : ¬ q = 0) (h4 : x1 - x1 / q * q = 0) (h5 : ¬ 5 ≤ f) (hv : vp_in f 5) (ek : f.toNatClampNeg = k) (e1 : x1 / q = x1') (h6 : ¬ x1' - x1' / q * q = 0) (ef : f + 1 = f') (eq : q + 1 = q') (H : wX_factor_22 post p o n x1' q' f' (upd a1 k q) (upd (upd a2 k 0) k 1) a3 a4) : wX_factor_22 post p o (n + 1) x1 q f a1 a2 a3 a4 := by
  subst ek
  refine br_f h1 (br_f h2 ⟨h3, br_t h4 (br_f h5 ⟨hv, nm_e ⟨hv, nm_e ⟨2, ?_⟩⟩⟩)⟩)
  refine br_f (by decide) ⟨h3, br_t h4 ⟨h3, nm_r e1 ⟨hv, hv, nm_r (e' := upd (upd a2 f.toNatClampNeg 0) f.toNatClampNeg 1) (by rw [pk_us, show (0 : Int32) + 1 = 1 by decide]) (nm_r (show (0 : Int32) + 1 = 1 by decide) ?_)⟩⟩⟩
  refine br_f (by decide) ⟨h3, br_f h6 ?_⟩
  unfold wX_factor_112
  exact nm_r ef (nm_r eq H)

def dl_z : Nat → Int32 := fun _ => 0

theorem dl_init {post : St2 → Prop} {p o f : Int32} (h : post (3, 2, 1, upd dl_z 0 2, upd (upd dl_z 0 0) 0 1, dl_z, dl_z)) : wpX_init post 4 266 (p, o, f) := by
  unfold wpX_init
  dsimp only
  refine ⟨by decide, by decide, by decide, by decide, by decide, by decide, by decide, by decide, ?_⟩
  unfold wpX_factor
  dsimp only
  refine nm_r (show (3 : Int32) - 1 = 2 by decide) ⟨2, ?_⟩
  refine dl_fs (x1' := 1) (q' := 3) (f' := 1) (k := 0) (by decide) (by decide) (by decide) (by decide) (by decide) (pk_in 0 5 (by decide)) (by decide) (by decide) (by decide) (by decide) (by decide) ?_
  exact br_f (by decide) (br_t (by decide) h)

theorem dl_isP {post : Int32 → Prop} {p o f : Int32} {a1 a2 a3 a4 : Nat → Int32} (h : post 1) : wpX_isPrime post (p, o, f, a1, a2, a3, a4) 7 := by
  unfold wpX_isPrime
  dsimp only
  exact br_t (by decide) ⟨2, br_f (by decide) (br_f (by decide) ⟨by decide, br_f (by decide) (nm_r (show (2 : Int32) + 1 = 3 by decide) (br_t (by decide) h))⟩)⟩

theorem dl_eB : upd (upd (upd dl_z 0 2) 0 2) 1 3 = dl_B := by
  funext j
  unfold dl_B dl_z upd
  by_cases h0 : j = 0
  · subst h0
    rfl
  · by_cases h1 : j = 1
    · subst h1
      rfl
    · rw [if_neg h1, if_neg h0, if_neg h0, if_neg h0, if_neg h1]

theorem dl_eT : upd (upd (upd (upd (upd (upd dl_z 0 0) 0 1) 0 0) 0 1) 1 0) 1 1 = dl_T := by
  funext j
  unfold dl_T dl_z upd
  by_cases h0 : j = 0
  · subst h0
    rfl
  · by_cases h1 : j = 1
    · subst h1
      rfl
    · simp only [if_neg h1, if_neg h0]

theorem dl_prime {post : Int32 → St2 → Prop} (h : post 3 (7, 6, 2, dl_B, dl_T, dl_z, dl_z)) : wpX_prime post (3, 2, 1, upd dl_z 0 2, upd (upd dl_z 0 0) 0 1, dl_z, dl_z) 7 := by
  unfold wpX_prime
  dsimp only
  refine br_f (by decide) (br_f (by decide) (dl_isP (br_f (by decide) ?_)))
  unfold wX_prime_25
  refine br_f (by decide) ?_
  unfold wpX_factor
  dsimp only
  refine nm_r (show (7 : Int32) - 1 = 6 by decide) ⟨3, ?_⟩
  refine dl_fs (x1' := 3) (q' := 3) (f' := 1) (k := 0) (by decide) (by decide) (by decide) (by decide) (by decide) (pk_in 0 5 (by decide)) (by decide) (by decide) (by decide) (by decide) (by decide) ?_
  refine dl_fs (x1' := 1) (q' := 4) (f' := 2) (k := 1) (by decide) (by decide) (by decide) (by decide) (by decide) (pk_in 1 5 (by decide)) (by decide) (by decide) (by decide) (by decide) (by decide) ?_
  rw [dl_eB, dl_eT]
  exact br_f (by decide) (br_t (by decide) h)

theorem dl_tab : ∀ j : Nat, j < 6 → dl_u (nI (j + 1)) = 0 ∧ dl_in (nI (j + 1)) = 1 ∧ dl_O (nI (j + 1)) = dl_lo (nI (j + 1)) ∧
    ((dl_ix (dl_P (nI (j + 1)) 5) + dl_ix (nI (j + 1))) - (dl_ix (dl_P (nI (j + 1)) 5) + dl_ix (nI (j + 1))) / 6 * 6 = 0 ∧ ¬ dl_P (nI (j + 1)) 5 < 1 ∧ ¬ 6 < dl_P (nI (j + 1)) 5) ∧
    (if dl_P (nI (j + 1)) 3 = 1 then 2 else 0) = (if dl_ix (nI (j + 1)) - dl_ix (nI (j + 1)) / 2 * 2 = 0 then 2 else (0 : Int32)) := by decide +kernel

theorem dl_tabL : ∀ j : Nat, j < 6 → ∀ k : Nat, k < 6 → dl_L (nI (j + 1)) (nI (k + 1)) = dl_du (nI (j + 1)) (nI (k + 1)) 1 := by decide +kernel

def dl_dec (g h : Int32) : Decidable (dl_ok g h) := by
  unfold dl_ok
  infer_instance
def dl_okb (g h : Int32) : Bool := @decide (dl_ok g h) (dl_dec g h)
def dl_oTb (g h n q : Int32) : Bool := dl_okb (dl_P (dl_P g (n / q)) 1) (dl_P (dl_m (dl_P h (n / q)) (dl_P (dl_P (dl_P g (n / q)) 5) 0)) 1)
theorem dl_okbT {g h n q : Int32} (e : dl_oTb g h n q = true) : dl_okT g h n q := @of_decide_eq_true _ (dl_dec _ _) e

theorem dl_tabK2 : ∀ j : Nat, j < 6 → ∀ k : Nat, k < 6 → ¬ dl_P (nI (k + 1)) (dl_O (nI (j + 1))) = 1 ∨ ¬ dl_O (nI (j + 1)) - dl_O (nI (j + 1)) / 2 * 2 = 0 ∨ (¬ dl_O (nI (j + 1)) - dl_O (nI (j + 1)) / (2 * 2) * (2 * 2) = 0 ∧ dl_oTb (nI (j + 1)) (nI (k + 1)) (dl_O (nI (j + 1))) 2 = true) := by decide +kernel

theorem dl_tabK3 : ∀ j : Nat, j < 6 → ∀ k : Nat, k < 6 → ¬ dl_P (nI (k + 1)) (dl_O (nI (j + 1))) = 1 ∨ ¬ dl_O (nI (j + 1)) - dl_O (nI (j + 1)) / 3 * 3 = 0 ∨ (¬ dl_O (nI (j + 1)) - dl_O (nI (j + 1)) / (3 * 3) * (3 * 3) = 0 ∧ dl_oTb (nI (j + 1)) (nI (k + 1)) (dl_O (nI (j + 1))) 3 = true) := by decide +kernel

theorem dl_or3 {a b c : Prop} (h : ¬ a ∨ ¬ b ∨ c) (x : a) (y : b) : c := (h.resolve_left (fun z => z x)).resolve_left (fun z => z y)

theorem dl_tabK (j : Nat) (hj : j < 6) (k : Nat) (hk : k < 6) : dl_okL (nI (j + 1)) (nI (k + 1)) := by
  intro h
  refine ⟨fun z => ?_, fun z => ?_⟩
  · have t := dl_or3 (dl_tabK2 j hj k hk) h z
    exact ⟨t.1, dl_okbT t.2⟩
  · have t := dl_or3 (dl_tabK3 j hj k hk) h z
    exact ⟨t.1, dl_okbT t.2⟩

theorem dl_tabG : ∀ j : Nat, j < 6 → ∀ k : Nat, k < 6 → dl_G (dl_O (nI (j + 1))) (dl_O (nI (k + 1))) = dl_sh (dl_lo (nI (j + 1))) (dl_lo (nI (k + 1))) := by decide +kernel

theorem dl_cls (g : Int32) : (dl_u g = 1 ∧ dl_in g = 0) ∨ ∃ j : Nat, j < 6 ∧ g = nI (j + 1) := by
  by_cases h1 : g < 1
  · exact Or.inl ⟨by unfold dl_u; rw [if_pos h1], by unfold dl_in; rw [if_pos h1]⟩
  · by_cases h6 : 6 < g
    · have h7 : ¬ g < 7 := by
        intro z
        have a : (6 : Int32).toInt < g.toInt := Int32.lt_iff_toInt_lt.mp h6
        have b : g.toInt < (7 : Int32).toInt := Int32.lt_iff_toInt_lt.mp z
        rw [show (6 : Int32).toInt = 6 by decide] at a
        rw [show (7 : Int32).toInt = 7 by decide] at b
        omega
      exact Or.inl ⟨by unfold dl_u; rw [if_neg h1, if_neg h7], by unfold dl_in; rw [if_neg h1, if_pos h6]⟩
    · exact Or.inr (dl_six h1 h6)

theorem dl_10 : ¬ (1 : Int32) = 0 := by decide

theorem dl_r5 (g : Int32) : dl_vo g = (if dl_in g = 0 then -1 else dl_lo g) := by
  unfold dl_vo
  rcases dl_cls g with ⟨hu, hi⟩ | ⟨j, hj, e⟩
  · rw [hu, hi, if_neg dl_10, if_pos rfl]
  · obtain ⟨hu, hi, ho, _⟩ := dl_tab j hj
    rw [e, hu, hi, if_neg dl_10, if_pos rfl, ho]

theorem dl_r7 (g : Int32) : (dl_in g = 0 ∧ dl_vi g = -1) ∨ (¬ dl_in g = 0 ∧ (dl_ix (dl_vi g) + dl_ix g) - (dl_ix (dl_vi g) + dl_ix g) / 6 * 6 = 0 ∧ ¬ dl_vi g < 1 ∧ ¬ 6 < dl_vi g) := by
  unfold dl_vi
  rcases dl_cls g with ⟨hu, hi⟩ | ⟨j, hj, e⟩
  · refine Or.inl ⟨hi, ?_⟩
    rw [hu, if_neg dl_10]
  · obtain ⟨hu, hi, ho, hv, _⟩ := dl_tab j hj
    rw [e, hu, hi, if_pos rfl]
    exact Or.inr ⟨dl_10, hv⟩

theorem dl_r9 (h : Int32) : dl_vr h = (if dl_in h = 0 then -1 else if dl_ix h - dl_ix h / 2 * 2 = 0 then 2 else 0) := by
  unfold dl_vr
  rcases dl_cls h with ⟨hu, hi⟩ | ⟨j, hj, e⟩
  · rw [hu, hi, if_neg dl_10, if_pos rfl]
  · obtain ⟨hu, hi, ho, hv, hr⟩ := dl_tab j hj
    rw [e, hu, hi, if_neg dl_10, if_pos rfl, hr]

theorem dl_bo0 (b : Int32) : dl_bo 0 b = 0 := by
  unfold dl_bo
  rw [if_pos rfl]
theorem dl_b10 : dl_bo 1 0 = 0 := by decide
theorem dl_b11 : dl_bo 1 1 = 1 := by decide
theorem dl_du0 (g h : Int32) : dl_du g h 0 = -1 := by
  unfold dl_du
  rw [if_pos rfl]

theorem dl_r6 (g h : Int32) : dl_vl g h = dl_du g h (dl_bo (dl_in g) (dl_in h)) := by
  unfold dl_vl
  rcases dl_cls g with ⟨hu, hi⟩ | ⟨j, hj, e⟩
  · rw [hu, hi, if_neg dl_10, dl_bo0, dl_du0]
  · obtain ⟨gu, gi, _⟩ := dl_tab j hj
    rcases dl_cls h with ⟨hu, hi⟩ | ⟨k, hk, e'⟩
    · rw [e, gu, gi, hu, hi, if_pos rfl, if_neg dl_10, dl_b10, dl_du0]
    · obtain ⟨hu, hi, _⟩ := dl_tab k hk
      rw [e, e', gu, gi, hu, hi, if_pos rfl, if_pos rfl, dl_b11, dl_tabL j hj k hk]

theorem dl_r8 (g h : Int32) : dl_vc g h = (if dl_bo (dl_in g) (dl_in h) = 0 then -1 else dl_sh (dl_lo g) (dl_lo h)) := by
  unfold dl_vc
  rcases dl_cls g with ⟨hu, hi⟩ | ⟨j, hj, e⟩
  · rw [hu, hi, if_neg dl_10, dl_bo0, if_pos rfl]
  · obtain ⟨gu, gi, _⟩ := dl_tab j hj
    rcases dl_cls h with ⟨hu, hi⟩ | ⟨k, hk, e'⟩
    · rw [e, gu, gi, hu, hi, if_pos rfl, if_neg dl_10, dl_b10, if_pos rfl]
    · obtain ⟨hu, hi, _⟩ := dl_tab k hk
      rw [e, e', gu, gi, hu, hi, if_pos rfl, if_pos rfl, dl_b11, if_neg dl_10, dl_tabG j hj k hk]

theorem dl_okA {g h : Int32} (hg : dl_u g = 0) (hh : dl_u h = 0) : dl_okL g h := by
  rcases dl_cls g with ⟨hu, _⟩ | ⟨j, hj, e⟩
  · rw [hg] at hu
    exact absurd hu (by decide)
  · rcases dl_cls h with ⟨hu, _⟩ | ⟨k, hk, e'⟩
    · rw [hh] at hu
      exact absurd hu (by decide)
    · rw [e, e']
      exact dl_tabK j hj k hk

theorem dl_lawOf (g h n : Int32) : wpL_lawOf (fun r _ => r = 1) 148 2352 () g h n := by
  unfold wpL_lawOf
  refine ⟨by decide, by decide, 4, 266, by decide, by decide, ?_⟩
  refine dl_init (dl_prime (dl_order (dl_log (fun hg hh => dl_okA hg hh) (fun k s => dl_inverse (dl_common (dl_roots (dl_gens (dl_gen (dl_units ?_)))))))))
  have t : ∀ kc ks : Nat, wL_lawOf_89 (fun r _ => r = 1) 148 2352 g h n 3 (dl_vo g) (dl_vl g h) (dl_vi g) (dl_vc g h) (dl_vr h) 2 3 (dl_many n) (dl_in g) kc ks :=
    fun kc ks => dl_89 rfl rfl ⟨dl_r5 g, dl_r6 g h, dl_r7 g, dl_r8 g h, dl_r9 h⟩
  unfold wL_lawOf_88
  unfold dl_in at t
  refine br_c (fun z => ?_) (fun z => ?_)
  · simp only [if_pos z] at t
    exact t _ _
  simp only [if_neg z] at t
  refine br_c (fun z => ?_) (fun z => ?_)
  · simp only [if_pos z] at t
    exact t _ _
  · simp only [if_neg z] at t
    exact t _ _

theorem dl_cellAt {post : Int32 → Prop} {L : Nat} {xs : Nat → Int32} (k : Nat) (hL : L ≤ 3) (hk : k < 3) (h : ∀ r : Int32, post r) : wpL_cellAt post L xs () (nI k) := by
  unfold wpL_cellAt
  exact pk_le L k (fun _ => h _) (fun z => ⟨pk_in k L z, h _⟩)

theorem i_vc (xs : Nat → Int32) (L : Nat) (hL : L ≤ 3) : wpL_law (fun r => r = 1) L xs := by
  unfold wpL_law
  refine dl_cellAt 0 hL (by decide) (fun g => dl_cellAt 1 hL (by decide) (fun h => dl_cellAt 2 hL (by decide) (fun n => ?_)))
  exact ⟨148, 2352, by decide, by decide, dl_lawOf g h n⟩
end
