section
/-- the picture of a state -/
def rl_S (t s b g0 g2 d0 d2 e h n r x y z : Nat) (u : St2) : Prop := match u with
  | (now, a1, a2, a3, a4, a5, a6, a7, a8, a9, a10, a11, a12, a13, a14) => now = nI t ∧ a1 0 = nI 1 ∧ a1 2 = nI 2 ∧ a3 0 = nI b ∧ a3 2 = nI b ∧ a4 0 = nI s ∧ a4 2 = nI s ∧ a5 0 = nI g0 ∧ a5 2 = nI g2 ∧ a5 1 = nI 0 ∧ a6 0 = nI d0 ∧ a6 2 = nI d2 ∧ a6 3 = nI 0 ∧ (a9 2 = nI e ∨ (e = 0 ∧ a9 2 = -1000000)) ∧ a10 0 = nI h ∧ a11 0 = nI n ∧ a11 2 = nI 0 ∧ a12 0 = nI r ∧ a13 0 = nI x ∧ a13 1 = nI z ∧ a14 0 = nI y
/-- the log's head does not leave now -/
def rl_Q (t s h n x z : Nat) : Prop := n = 0 ∨ (h = 0 ∧ t < x + s) ∨ (h = 1 ∧ t < z + s)
/-- bounds of the numbers -/
def rl_N (t s b e x z : Nat) : Prop := 1 ≤ s ∧ s ≤ 10 ∧ 1 ≤ b ∧ b ≤ 20 ∧ s ≤ t ∧ t ≤ 20000 ∧ e ≤ 20000 ∧ x ≤ 20000 ∧ z ≤ 20000
theorem rl_c0 : (0 : Int32).toNatClampNeg = 0 := rfl
theorem rl_c1 : (1 : Int32).toNatClampNeg = 1 := rfl
theorem rl_c2 : (2 : Int32).toNatClampNeg = 2 := rfl
theorem rl_c3 : (3 : Int32).toNatClampNeg = 3 := rfl
theorem rl_v0 : vp_in 0 4 := pk_in 0 4 (by decide)
theorem rl_v1 : vp_in 1 4 := pk_in 1 4 (by decide)
theorem rl_v2 : vp_in 2 4 := pk_in 2 4 (by decide)
theorem rl_v3 : vp_in 3 4 := pk_in 3 4 (by decide)
/-- a state's names out of a state -/
theorem rl_ex {I Q : St2 → Prop} (h : ∀ (now : Int32) (a1 a2 a3 a4 a5 a6 a7 a8 a9 a10 a11 a12 a13 a14 : Nat → Int32), I (now, a1, a2, a3, a4, a5, a6, a7, a8, a9, a10, a11, a12, a13, a14) → Q (now, a1, a2, a3, a4, a5, a6, a7, a8, a9, a10, a11, a12, a13, a14)) : ∀ u, I u → Q u := fun u => match u with
  | (now, a1, a2, a3, a4, a5, a6, a7, a8, a9, a10, a11, a12, a13, a14) => h now a1 a2 a3 a4 a5 a6 a7 a8 a9 a10 a11 a12 a13 a14
theorem rl_bad {post : Int32 → Prop} {p : Int32} (h0 : ¬ p < 0) (h4 : p < 4) (hp : post 0) : wpX_bad post () p := by
  unfold wpX_bad
  exact br_f h0 (br_t h4 hp)
theorem rl_cost {post : Int32 → Prop} {c : Nat} (h1 : 1 ≤ c) (h2 : c ≤ 20) (hp : post 0) : wpX_badCost post () (nI c) := by
  unfold wpX_badCost
  exact pk_lt c 1 (fun z => absurd z (by omega)) (fun _ => pk_le c 20 (fun _ => hp) (fun z => absurd z (by omega)))
theorem rl_cu {post : St2 → Prop} {now : Int32} {a1 a2 a3 a4 a5 a6 a7 a8 a9 a10 a11 a12 a13 a14 : Nat → Int32} {p : Int32} {m : Nat} (hc : p.toNatClampNeg = m) (hv : vp_in p 4)
    (hq : a11 m ≤ 0 ∨ (¬ a11 m ≤ 0 ∧ vp_in (p * 32 + a10 m) 128 ∧ now - a4 m < a13 (p * 32 + a10 m).toNatClampNeg))
    (hp : ∀ a7' a8', post (now, a1, a2, a3, a4, a5, a6, a7', a8', a9, a10, a11, a12, a13, a14)) : wpX_catchUp post (now, a1, a2, a3, a4, a5, a6, a7, a8, a9, a10, a11, a12, a13, a14) p := by
  subst hc
  have h51 : ∀ z0, wX_catchUp_51 post p z0 p now a1 a2 a3 a4 a5 a6 a7 a8 a9 a10 a11 a12 a13 a14 := by
    intro z0
    unfold wX_catchUp_51
    refine ⟨hv, nm_e ⟨hv, nm_e ⟨1, ?_⟩⟩⟩
    refine br_f (by decide) ⟨hv, ?_⟩
    rcases hq with h | ⟨h1, h2, h3⟩
    · exact br_t h (hp _ _)
    · exact br_f h1 ⟨hv, h2, hv, br_t h3 (hp _ _)⟩
  unfold wpX_catchUp
  exact ⟨hv, hv, hv, nm_e ⟨hv, br_c (fun _ => ⟨hv, h51 _⟩) (fun _ => h51 _)⟩⟩
theorem rl_pop {post : St2 → Prop} {now : Int32} {a1 a2 a3 a4 a5 a6 a7 a8 a9 a10 a11 a12 a13 a14 : Nat → Int32} (h10 : a10 0 = nI 0) (h11 : a11 0 = nI 1) (hx : ¬ now - a4 0 < a13 0)
    (hp : ∀ a7' a8', post (now, a1, a2, a3, a4, a5, a6, a7', a8', a9, upd a10 0 (nI 1), upd a11 0 (nI 0), upd a12 0 (a12 0 - a14 0), a13, a14)) : wpX_catchUp post (now, a1, a2, a3, a4, a5, a6, a7, a8, a9, a10, a11, a12, a13, a14) 0 := by
  have hv := rl_v0
  have hi : (0 : Int32) * 32 + a10 0 = nI 0 := by rw [h10]; rfl
  have h51 : ∀ z0, wX_catchUp_51 post 0 z0 0 now a1 a2 a3 a4 a5 a6 a7 a8 a9 a10 a11 a12 a13 a14 := by
    intro z0
    unfold wX_catchUp_51
    rw [rl_c0]
    refine ⟨hv, nm_e ⟨hv, nm_e ⟨2, ?_⟩⟩⟩
    refine br_f (by decide) ⟨hv, br_f ?_ ⟨hv, ?_, hv, br_f ?_ ⟨hv, hv, ?_, hv, nm_r (e' := upd a12 0 (a12 0 - a14 0)) ?_ ⟨hv, hv, nm_r (e' := upd a10 0 (nI 1)) ?_ ⟨hv, hv, nm_r (e' := upd a11 0 (nI 0)) ?_ (nm_e ?_)⟩⟩⟩⟩⟩
    · show ¬ a11 0 ≤ 0
      rw [h11]
      decide
    · show vp_in ((0 : Int32) * 32 + a10 0) 128
      rw [hi]
      exact pk_in 0 128 (by decide)
    · show ¬ now - a4 0 < a13 ((0 : Int32) * 32 + a10 0).toNatClampNeg
      rw [hi]
      exact hx
    · show vp_in ((0 : Int32) * 32 + a10 0) 128
      rw [hi]
      exact pk_in 0 128 (by decide)
    · show upd a12 0 (a12 0 - a14 ((0 : Int32) * 32 + a10 0).toNatClampNeg) = _
      rw [hi]
      rfl
    · show upd a10 0 ((a10 0 + 1) &&& 31) = _
      rw [h10]
      rfl
    · show upd a11 0 (a11 0 - 1) = _
      rw [h11]
      rfl
    · refine br_f (by decide) ⟨hv, br_t ?_ (hp _ _)⟩
      show upd a11 0 (nI 0) 0 ≤ 0
      rw [pk_us]
      decide
  unfold wpX_catchUp
  exact ⟨hv, hv, hv, nm_e ⟨hv, br_c (fun _ => ⟨hv, h51 _⟩) (fun _ => h51 _)⟩⟩
theorem rl_q {now : Int32} {a1 a2 a3 a4 a5 a6 a7 a8 a9 a10 a11 a12 a13 a14 : Nat → Int32} {t s b g0 g2 d0 d2 e h n r x y z : Nat} (hS : rl_S t s b g0 g2 d0 d2 e h n r x y z (now, a1, a2, a3, a4, a5, a6, a7, a8, a9, a10, a11, a12, a13, a14)) (hq : rl_Q t s h n x z) (hN : rl_N t s b e x z) (hn : n ≤ 2) :
    a11 0 ≤ 0 ∨ (¬ a11 0 ≤ 0 ∧ vp_in (0 * 32 + a10 0) 128 ∧ now - a4 0 < a13 ((0 : Int32) * 32 + a10 0).toNatClampNeg) := by
  obtain ⟨k0, _, _, _, _, k4, _, _, _, _, _, _, _, _, k10, k11, _, _, kx, kz, _⟩ := hS
  obtain ⟨n1, n2, n3, n4, n5, n6, n7, n8, n9⟩ := hN
  rw [k11]
  by_cases hn0 : n = 0
  · left
    subst hn0
    decide
  · right
    refine ⟨nI_nle (by omega) (by omega), ?_⟩
    rw [k10, k0, k4, pk_sub n5]
    rcases hq with c | ⟨c, d⟩ | ⟨c, d⟩
    · exact absurd c hn0
    · subst c
      refine ⟨pk_in 0 128 (by decide), ?_⟩
      show nI (t - s) < a13 0
      rw [kx]
      exact nI_lt (by omega) (by omega)
    · subst c
      refine ⟨pk_in 1 128 (by decide), ?_⟩
      show nI (t - s) < a13 1
      rw [kz]
      exact nI_lt (by omega) (by omega)
theorem rl_rm0 {post : Int32 → St2 → Prop} {now : Int32} {a1 a2 a3 a4 a5 a6 a7 a8 a9 a10 a11 a12 a13 a14 : Nat → Int32} {t s b g0 g2 d0 d2 e h n r x y z : Nat} (hS : rl_S t s b g0 g2 d0 d2 e h n r x y z (now, a1, a2, a3, a4, a5, a6, a7, a8, a9, a10, a11, a12, a13, a14)) (hq : rl_Q t s h n x z) (hN : rl_N t s b e x z) (hn : n ≤ 2) (hr : r ≤ b)
    (hp : ∀ u, rl_S t s b g0 g2 d0 d2 e h n r x y z u → post (nI (b - r)) u) : wpX_roomOf post (now, a1, a2, a3, a4, a5, a6, a7, a8, a9, a10, a11, a12, a13, a14) 0 := by
  unfold wpX_roomOf
  refine rl_cu rl_c0 rl_v0 (rl_q hS hq hN hn) (fun a7' a8' => ?_)
  have hS' : rl_S t s b g0 g2 d0 d2 e h n r x y z (now, a1, a2, a3, a4, a5, a6, a7', a8', a9, a10, a11, a12, a13, a14) := hS
  obtain ⟨k0, k1, _, k3, _, _, _, _, _, _, _, _, _, _, _, _, _, k12, _⟩ := hS
  refine ⟨rl_v0, br_f ?_ ⟨rl_v0, br_t ?_ ⟨rl_v0, rl_v0, ?_⟩⟩⟩
  · show ¬ a1 0 = 0
    rw [k1]
    decide
  · show a1 0 = 1
    rw [k1]
    rfl
  · have ee : a3 0 - a12 0 = nI (b - r) := by rw [k3, k12, pk_sub hr]
    exact ek_v (P := fun v => post v (now, a1, a2, a3, a4, a5, a6, a7', a8', a9, a10, a11, a12, a13, a14)) ee (hp _ hS')
theorem rl_rm0p {post : Int32 → St2 → Prop} {now : Int32} {a1 a2 a3 a4 a5 a6 a7 a8 a9 a10 a11 a12 a13 a14 : Nat → Int32} {t s b g0 g2 d0 d2 e r x z : Nat} (hS : rl_S t s b g0 g2 d0 d2 e 0 1 r x r z (now, a1, a2, a3, a4, a5, a6, a7, a8, a9, a10, a11, a12, a13, a14)) (hq : x + s ≤ t) (hN : rl_N t s b e x z)
    (hp : ∀ u, rl_S t s b g0 g2 d0 d2 e 1 0 0 x r z u → post (nI b) u) : wpX_roomOf post (now, a1, a2, a3, a4, a5, a6, a7, a8, a9, a10, a11, a12, a13, a14) 0 := by
  unfold wpX_roomOf
  obtain ⟨k0, k1, k1', k3, k3', k4, k4', k5, k5', k5'', k6, k6', k6'', k9, k10, k11, k11', k12, k13, k13', k14⟩ := hS
  obtain ⟨n1, n2, n3, n4, n5, n6, n7, n8, n9⟩ := hN
  have hx : ¬ now - a4 0 < a13 0 := by
    rw [k0, k4, k13, pk_sub n5]
    exact nI_nlt (by omega) (by omega)
  refine rl_pop k10 k11 hx (fun a7' a8' => ?_)
  have z12 : a12 0 - a14 0 = nI 0 := by
    rw [k12, k14, pk_sub (Nat.le_refl r), Nat.sub_self]
  have hS' : rl_S t s b g0 g2 d0 d2 e 1 0 0 x r z (now, a1, a2, a3, a4, a5, a6, a7', a8', a9, upd a10 0 (nI 1), upd a11 0 (nI 0), upd a12 0 (a12 0 - a14 0), a13, a14) :=
    ⟨k0, k1, k1', k3, k3', k4, k4', k5, k5', k5'', k6, k6', k6'', k9, pk_us, pk_us, (pk_un (by decide)).trans k11', pk_us.trans z12, k13, k13', k14⟩
  refine ⟨rl_v0, br_f ?_ ⟨rl_v0, br_t ?_ ⟨rl_v0, rl_v0, ?_⟩⟩⟩
  · show ¬ a1 0 = 0
    rw [k1]
    decide
  · show a1 0 = 1
    rw [k1]
    rfl
  · have ee : a3 0 - upd a12 0 (a12 0 - a14 0) 0 = nI b := by rw [pk_us, z12, k3, pk_sub (Nat.zero_le b)]; rfl
    exact ek_v (P := fun v => post v (now, a1, a2, a3, a4, a5, a6, a7', a8', a9, upd a10 0 (nI 1), upd a11 0 (nI 0), upd a12 0 (a12 0 - a14 0), a13, a14)) ee (hp _ hS')
theorem rl_ago {t : Nat} (h : t ≤ 20000) : (-1000000 : Int32) ≤ nI t := by
  rw [Int32.le_iff_toInt_le, nI_toInt (by omega)]
  have : (-1000000 : Int32).toInt = -1000000 := by decide
  omega
theorem rl_base2 {post : Int32 → Prop} {now : Int32} {a1 a2 a3 a4 a5 a6 a7 a8 a9 a10 a11 a12 a13 a14 : Nat → Int32} {t s b g0 g2 d0 d2 e h n r x y z : Nat} (hS : rl_S t s b g0 g2 d0 d2 e h n r x y z (now, a1, a2, a3, a4, a5, a6, a7, a8, a9, a10, a11, a12, a13, a14)) (hN : rl_N t s b e x z) (hp : post (nI (max e t))) : wpX_base post (now, a1, a2, a3, a4, a5, a6, a7, a8, a9, a10, a11, a12, a13, a14) 2 := by
  obtain ⟨k0, k1, k1', k3, k3', k4, k4', k5, k5', k5'', k6, k6', k6'', k9, k10, k11, k11', k12, k13, k13', k14⟩ := hS
  obtain ⟨n1, n2, n3, n4, n5, n6, n7, n8, n9⟩ := hN
  unfold wpX_base
  rw [rl_c2]
  refine ⟨rl_v2, ?_⟩
  show (a9 2 ≤ now → post now) ∧ (¬ a9 2 ≤ now → (vp_in 2 4 ∧ post (a9 2)))
  rcases k9 with k | ⟨ke, k⟩
  · rw [k, k0]
    refine pk_le e t (fun hh => ?_) (fun hh => ⟨rl_v2, ?_⟩)
    · rw [show max e t = t by omega] at hp
      exact hp
    · rw [show max e t = e by omega] at hp
      exact hp
  · rw [k, k0]
    refine br_t (rl_ago n6) ?_
    rw [show max e t = t by omega] at hp
    exact hp
theorem rl_bs {t s b e x z : Nat} (hN : rl_N t s b e x z) : b * s ≤ 200 := Nat.mul_le_mul hN.2.2.2.1 hN.2.1
theorem rl_rm2 {post : Int32 → St2 → Prop} {now : Int32} {a1 a2 a3 a4 a5 a6 a7 a8 a9 a10 a11 a12 a13 a14 : Nat → Int32} {t s b g0 g2 d0 d2 e h n r x y z : Nat} (hS : rl_S t s b g0 g2 d0 d2 e h n r x y z (now, a1, a2, a3, a4, a5, a6, a7, a8, a9, a10, a11, a12, a13, a14)) (hN : rl_N t s b e x z) (he : e - t ≤ b * s)
    (hp : ∀ u, rl_S t s b g0 g2 d0 d2 e h n r x y z u → post (nI ((b * s - (e - t)) / s)) u) : wpX_roomOf post (now, a1, a2, a3, a4, a5, a6, a7, a8, a9, a10, a11, a12, a13, a14) 2 := by
  have hbs := rl_bs hN
  unfold wpX_roomOf
  have k11' : a11 2 = nI 0 := hS.2.2.2.2.2.2.2.2.2.2.2.2.2.2.2.2.1
  refine rl_cu rl_c2 rl_v2 (Or.inl (by rw [k11']; decide)) (fun a7' a8' => ?_)
  have hS' : rl_S t s b g0 g2 d0 d2 e h n r x y z (now, a1, a2, a3, a4, a5, a6, a7', a8', a9, a10, a11, a12, a13, a14) := hS
  obtain ⟨k0, k1, k1', k3, k3', k4, k4', k5, k5', k5'', k6, k6', k6'', k9, k10, k11, k11', k12, k13, k13', k14⟩ := hS
  refine ⟨rl_v2, br_f ?_ ⟨rl_v2, br_f ?_ (rl_base2 hS' hN ?_)⟩⟩
  · show ¬ a1 2 = 0
    rw [k1']
    decide
  · show ¬ a1 2 = 1
    rw [k1']
    decide
  obtain ⟨n1, n2, n3, n4, n5, n6, n7, n8, n9⟩ := hN
  refine nm_r (e' := nI (e - t)) ?_ ⟨rl_v2, rl_v2, nm_r (e' := nI (b * s - (e - t))) ?_ (br_t (nI_pos' (by omega)) ⟨rl_v2, br_f ?_ ⟨rl_v2, ?_, ?_⟩⟩)⟩
  · rw [k0, pk_sub (by omega)]
    exact congrArg nI (by omega)
  · show a3 2 * a4 2 - nI (e - t) = _
    rw [k3', k4', pk_mul, pk_sub he]
  · show ¬ a4 2 ≤ 0
    rw [k4']
    exact nI_nle (by omega) (by omega)
  · show ¬ a4 2 = 0
    rw [k4']
    exact nI_ne0 (by omega) (by omega)
  · have ee : nI (b * s - (e - t)) / a4 2 = nI ((b * s - (e - t)) / s) := by
      rw [k4', pk_div (by omega) (by omega) (by omega)]
    exact ek_v (P := fun v => post v (now, a1, a2, a3, a4, a5, a6, a7', a8', a9, a10, a11, a12, a13, a14)) ee (hp _ hS')
end
section
theorem rl_start {post : St2 → Prop} {now : Int32} {a1 a2 a3 a4 a5 a6 a7 a8 a9 a10 a11 a12 a13 a14 : Nat → Int32} {p q r1 b1 s1 : Int32} {m : Nat} (hc : p.toNatClampNeg = m) (hv : vp_in p 4)
    (hp : post (now, upd a1 m q, upd a2 m r1, upd a3 m b1, upd a4 m s1, upd a5 m 0, upd a6 m 0, upd a7 m b1, upd a8 m now, upd a9 m (-1000000), upd a10 m 0, upd a11 m 0, upd a12 m 0, a13, a14)) : wpX_start post (now, a1, a2, a3, a4, a5, a6, a7, a8, a9, a10, a11, a12, a13, a14) p q r1 b1 s1 := by
  subst hc
  unfold wpX_start
  exact ⟨hv, nm_e ⟨hv, nm_e ⟨hv, nm_e ⟨hv, nm_e ⟨hv, nm_e ⟨hv, nm_e ⟨hv, nm_e ⟨hv, nm_e ⟨hv, nm_e ⟨hv, nm_e ⟨hv, nm_e ⟨hv, nm_e hp⟩⟩⟩⟩⟩⟩⟩⟩⟩⟩⟩⟩
/-- behind the constructor: what no later call sets -/
def rl_Z (u : St2) : Prop := match u with
  | (now, a1, a2, a3, a4, a5, a6, a7, a8, a9, a10, a11, a12, a13, a14) => now = nI 0 ∧ a5 1 = nI 0 ∧ a6 3 = nI 0 ∧ a13 0 = nI 0 ∧ a13 1 = nI 0 ∧ a14 0 = nI 0
theorem rl_init {post : St2 → Prop} {mc ms : Nat} (hmc : 14 ≤ mc) (hms : 304 ≤ ms) (hp : ∀ u, rl_Z u → post u) : wpX_init post mc ms 0 := by
  unfold wpX_init
  refine ⟨by omega, by omega, by omega, by omega, by omega, by omega, by omega, by omega, by omega, by omega, by omega, by omega, by omega, by omega, by omega, by omega, by omega, by omega, by omega, by omega, by omega, by omega, by omega, by omega, by omega, by omega, by omega, by omega, 5, ?_⟩
  refine br_f (by decide) (rl_start rl_c0 rl_v0 (nm_r (e' := 1) (by rfl) ?_))
  refine br_f (by decide) (rl_start rl_c1 rl_v1 (nm_r (e' := 2) (by rfl) ?_))
  refine br_f (by decide) (rl_start rl_c2 rl_v2 (nm_r (e' := 3) (by rfl) ?_))
  refine br_f (by decide) (rl_start rl_c3 rl_v3 (nm_r (e' := 4) (by rfl) ?_))
  exact br_t (by decide) (hp _ ⟨rfl, rfl, rfl, rfl, rfl, rfl⟩)
theorem rl_num (s b : Nat) : (1 + 8 * nI b + 256 * nI s : Int32) = nI (1 + 8 * b + 256 * s) := by
  rw [show (8 : Int32) = nI 8 from rfl, show (256 : Int32) = nI 256 from rfl, show (1 : Int32) = nI 1 from rfl, pk_mul, pk_mul, nI_add, nI_add]
theorem rl_num1 (b : Nat) : (1 + 8 * nI b : Int32) = nI (1 + 8 * b) := by
  rw [show (8 : Int32) = nI 8 from rfl, show (1 : Int32) = nI 1 from rfl, pk_mul, nI_add]
theorem rl_set {post : Int32 → St2 → Prop} {now : Int32} {a1 a2 a3 a4 a5 a6 a7 a8 a9 a10 a11 a12 a13 a14 : Nat → Int32} {p q : Int32} {m s b : Nat} (hc : p.toNatClampNeg = m) (hv : vp_in p 4) (h0 : ¬ p < 0) (h4 : p < 4) (hq0 : ¬ q < 0) (hq2 : q ≤ 2)
    (s1 : 1 ≤ s) (s2 : s ≤ 10) (b1 : 1 ≤ b) (b2 : b ≤ 20)
    (hp : post 0 (now, upd a1 m q, upd a2 m (nI 1), upd a3 m (nI b), upd a4 m (nI s), upd a5 m 0, upd a6 m 0, upd a7 m (nI b), upd a8 m now, upd a9 m (-1000000), upd a10 m 0, upd a11 m 0, upd a12 m 0, a13, a14)) : wpX_set post (now, a1, a2, a3, a4, a5, a6, a7, a8, a9, a10, a11, a12, a13, a14) p q (1 + 8 * nI b + 256 * nI s) := by
  rw [rl_num]
  unfold wpX_set
  refine rl_bad h0 h4 (br_t rfl (br_f hq0 (br_t hq2 (nm_r (e' := nI 1) ?_ (nm_r (e' := nI b) ?_ (nm_r (e' := nI s) ?_ ?_))))))
  · rw [pk_andN (by omega) 3 (by decide)]
    exact congrArg nI (by omega)
  · rw [pk_shrN (by omega) _ 3 (by decide), pk_andN (by omega) 5 (by decide)]
    exact congrArg nI (by omega)
  · rw [pk_shrN (by omega) _ 8 (by decide), pk_andN (by omega) 4 (by decide)]
    exact congrArg nI (by omega)
  · refine br_f (by decide) (br_f (by decide) ?_)
    refine pk_lt b 1 (fun z => absurd z (by omega)) (fun _ => pk_lt 30 b (fun z => absurd z (by omega)) (fun _ => pk_lt s 1 (fun z => absurd z (by omega)) (fun _ => pk_le s 10 (fun _ => ?_) (fun z => absurd z (by omega)))))
    exact rl_start hc hv hp
theorem rl_setbad {post : Int32 → St2 → Prop} {now : Int32} {a1 a2 a3 a4 a5 a6 a7 a8 a9 a10 a11 a12 a13 a14 : Nat → Int32} {b : Nat} (b1 : 1 ≤ b) (b2 : b ≤ 20) (hp : post (-3) (now, a1, a2, a3, a4, a5, a6, a7, a8, a9, a10, a11, a12, a13, a14)) : wpX_set post (now, a1, a2, a3, a4, a5, a6, a7, a8, a9, a10, a11, a12, a13, a14) 0 1 (1 + 8 * nI b) := by
  rw [rl_num1]
  unfold wpX_set
  refine rl_bad (by decide) (by decide) (br_t rfl (br_f (by decide) (br_t (by decide) (nm_r (e' := nI 1) ?_ (nm_r (e' := nI b) ?_ (nm_r (e' := nI 0) ?_ ?_))))))
  · rw [pk_andN (by omega) 3 (by decide)]
    exact congrArg nI (by omega)
  · rw [pk_shrN (by omega) _ 3 (by decide), pk_andN (by omega) 5 (by decide)]
    exact congrArg nI (by omega)
  · rw [pk_shrN (by omega) _ 8 (by decide), pk_andN (by omega) 4 (by decide)]
    exact congrArg nI (by omega)
  · refine br_f (by decide) (br_f (by decide) ?_)
    exact pk_lt b 1 (fun z => absurd z (by omega)) (fun _ => pk_lt 30 b (fun z => absurd z (by omega)) (fun _ => br_t (by decide) hp))
theorem rl_set0 {post : Int32 → St2 → Prop} {now : Int32} {a1 a2 a3 a4 a5 a6 a7 a8 a9 a10 a11 a12 a13 a14 : Nat → Int32} {t s b g0 g2 d0 d2 e h n r x y z : Nat} (hS : rl_S t s b g0 g2 d0 d2 e h n r x y z (now, a1, a2, a3, a4, a5, a6, a7, a8, a9, a10, a11, a12, a13, a14)) (s1 : 1 ≤ s) (s2 : s ≤ 10) (b1 : 1 ≤ b) (b2 : b ≤ 20)
    (hp : ∀ u, rl_S t s b 0 g2 0 d2 e 0 0 0 x y z u → post 0 u) : wpX_set post (now, a1, a2, a3, a4, a5, a6, a7, a8, a9, a10, a11, a12, a13, a14) 0 1 (1 + 8 * nI b + 256 * nI s) := by
  obtain ⟨k0, k1, k1', k3, k3', k4, k4', k5, k5', k5'', k6, k6', k6'', k9, k10, k11, k11', k12, k13, k13', k14⟩ := hS
  refine rl_set rl_c0 rl_v0 (by decide) (by decide) (by decide) (by decide) s1 s2 b1 b2 (hp _ ?_)
  exact ⟨k0, pk_us, (pk_un (by decide)).trans k1', pk_us, (pk_un (by decide)).trans k3', pk_us, (pk_un (by decide)).trans k4', pk_us, (pk_un (by decide)).trans k5', (pk_un (by decide)).trans k5'', pk_us, (pk_un (by decide)).trans k6', (pk_un (by decide)).trans k6'', k9.imp (fun h => (pk_un (by decide)).trans h) (fun h => ⟨h.1, (pk_un (by decide)).trans h.2⟩), pk_us, pk_us, (pk_un (by decide)).trans k11', pk_us, k13, k13', k14⟩
theorem rl_pass {post : Int32 → St2 → Prop} {now : Int32} {a1 a2 a3 a4 a5 a6 a7 a8 a9 a10 a11 a12 a13 a14 : Nat → Int32} {t s b g0 g2 d0 d2 e h n r x y z : Nat} {c : Nat} (hS : rl_S t s b g0 g2 d0 d2 e h n r x y z (now, a1, a2, a3, a4, a5, a6, a7, a8, a9, a10, a11, a12, a13, a14)) (hc : c ≤ 1000) (ht : t + c ≤ 20000)
    (hp : ∀ u, rl_S (t+c) s b g0 g2 d0 d2 e h n r x y z u → post (nI (t + c)) u) : wpX_pass post (now, a1, a2, a3, a4, a5, a6, a7, a8, a9, a10, a11, a12, a13, a14) (nI c) := by
  obtain ⟨k0, k1, k1', k3, k3', k4, k4', k5, k5', k5'', k6, k6', k6'', k9, k10, k11, k11', k12, k13, k13', k14⟩ := hS
  unfold wpX_pass
  have e0 : now + nI c = nI (t + c) := by rw [k0, nI_add]
  refine br_f (nI_pos (by omega)) (pk_le c 1000 (fun _ => pk_le (t + c) 100000 (fun _ => nm_r e0 (hp _ ?_)) (fun z => absurd z (by omega)) e0) (fun z => absurd z (by omega)))
  exact ⟨rfl, k1, k1', k3, k3', k4, k4', k5, k5', k5'', k6, k6', k6'', k9, k10, k11, k11', k12, k13, k13', k14⟩
theorem rl_passbad {post : Int32 → St2 → Prop} {now : Int32} {a1 a2 a3 a4 a5 a6 a7 a8 a9 a10 a11 a12 a13 a14 : Nat → Int32} (hp : post (-3) (now, a1, a2, a3, a4, a5, a6, a7, a8, a9, a10, a11, a12, a13, a14)) : wpX_pass post (now, a1, a2, a3, a4, a5, a6, a7, a8, a9, a10, a11, a12, a13, a14) 1001 := by
  unfold wpX_pass
  exact br_f (by decide) (br_f (by decide) hp)
theorem rl_granted {post : Int32 → Prop} {now : Int32} {a1 a2 a3 a4 a5 a6 a7 a8 a9 a10 a11 a12 a13 a14 : Nat → Int32} {p v : Int32} {m : Nat} (hc : p.toNatClampNeg = m) (hv : vp_in p 4) (h0 : ¬ p < 0) (h4 : p < 4) (he : a5 m = v) (hp : post v) : wpX_granted post (now, a1, a2, a3, a4, a5, a6, a7, a8, a9, a10, a11, a12, a13, a14) p := by
  subst hc
  subst he
  unfold wpX_granted
  exact rl_bad h0 h4 (br_t rfl ⟨hv, hp⟩)
theorem rl_denied {post : Int32 → Prop} {now : Int32} {a1 a2 a3 a4 a5 a6 a7 a8 a9 a10 a11 a12 a13 a14 : Nat → Int32} {p v : Int32} {m : Nat} (hc : p.toNatClampNeg = m) (hv : vp_in p 4) (h0 : ¬ p < 0) (h4 : p < 4) (he : a6 m = v) (hp : post v) : wpX_denied post (now, a1, a2, a3, a4, a5, a6, a7, a8, a9, a10, a11, a12, a13, a14) p := by
  subst hc
  subst he
  unfold wpX_denied
  exact rl_bad h0 h4 (br_t rfl ⟨hv, hp⟩)
/-! grants -/
theorem rl_gr0 {post : St2 → Prop} {now : Int32} {a1 a2 a3 a4 a5 a6 a7 a8 a9 a10 a11 a12 a13 a14 : Nat → Int32} {t s b g0 g2 d0 d2 e h n r x y z : Nat} {c k : Nat} (hS : rl_S t s b g0 g2 d0 d2 e h n r x y z (now, a1, a2, a3, a4, a5, a6, a7, a8, a9, a10, a11, a12, a13, a14)) (hk : h + n = k) (hk2 : k ≤ 30)
    (hp : post (now, a1, a2, a3, a4, upd a5 0 (nI (g0 + c)), a6, a7, a8, a9, a10, upd a11 0 (nI (n + 1)), upd a12 0 (nI (r + c)), upd a13 k (nI t), upd a14 k (nI c))) : wpX_grant post (now, a1, a2, a3, a4, a5, a6, a7, a8, a9, a10, a11, a12, a13, a14) 0 (nI c) := by
  obtain ⟨k0, k1, k1', k3, k3', k4, k4', k5, k5', k5'', k6, k6', k6'', k9, k10, k11, k11', k12, k13, k13', k14⟩ := hS
  have hv := rl_v0
  have hcl : (nI k).toNatClampNeg = k := nI_clamp (by omega)
  unfold wpX_grant
  refine ⟨hv, hv, nm_r (e' := upd a5 0 (nI (g0 + c))) ?_ ⟨hv, br_f ?_ ⟨hv, br_t ?_ ⟨hv, hv, nm_r (e' := nI k) ?_ ⟨pk_in k 128 (by omega), nm_r (e' := upd a13 k (nI t)) ?_ ⟨pk_in k 128 (by omega), nm_r (e' := upd a14 k (nI c)) ?_ ⟨hv, hv, nm_r (e' := upd a11 0 (nI (n + 1))) ?_ ⟨hv, hv, nm_r (e' := upd a12 0 (nI (r + c))) ?_ hp⟩⟩⟩⟩⟩⟩⟩⟩
  · show upd a5 0 (a5 0 + nI c) = _
    rw [k5, nI_add]
  · show ¬ a1 0 = 0
    rw [k1]
    decide
  · show a1 0 = 1
    rw [k1]
    rfl
  · show (0 : Int32) * 32 + ((a10 0 + a11 0) &&& 31) = nI k
    rw [k10, k11, nI_add, hk, pk_andN (by omega) 5 (by decide), show (0 : Int32) * 32 = nI 0 from rfl, nI_add]
    exact congrArg nI (by omega)
  · rw [hcl, k0]
  · rw [hcl]
  · show upd a11 0 (a11 0 + 1) = _
    rw [k11, nI_1]
  · show upd a12 0 (a12 0 + nI c) = _
    rw [k12, nI_add]
theorem rl_gr0a {post : St2 → Prop} {now : Int32} {a1 a2 a3 a4 a5 a6 a7 a8 a9 a10 a11 a12 a13 a14 : Nat → Int32} {t s b g0 g2 d0 d2 e x y z : Nat} {c : Nat} (hS : rl_S t s b g0 g2 d0 d2 e 0 0 0 x y z (now, a1, a2, a3, a4, a5, a6, a7, a8, a9, a10, a11, a12, a13, a14))
    (hp : ∀ u, rl_S t s b (g0+c) g2 d0 d2 e 0 1 c t c z u → post u) : wpX_grant post (now, a1, a2, a3, a4, a5, a6, a7, a8, a9, a10, a11, a12, a13, a14) 0 (nI c) := by
  refine rl_gr0 hS (k := 0) (by rfl) (by omega) (hp _ ?_)
  obtain ⟨k0, k1, k1', k3, k3', k4, k4', k5, k5', k5'', k6, k6', k6'', k9, k10, k11, k11', k12, k13, k13', k14⟩ := hS
  exact ⟨k0, k1, k1', k3, k3', k4, k4', pk_us, (pk_un (by decide)).trans k5', (pk_un (by decide)).trans k5'', k6, k6', k6'', k9, k10, pk_us, (pk_un (by decide)).trans k11', pk_us.trans (congrArg nI (Nat.zero_add c)), pk_us, (pk_un (by decide)).trans k13', pk_us⟩
theorem rl_gr0b {post : St2 → Prop} {now : Int32} {a1 a2 a3 a4 a5 a6 a7 a8 a9 a10 a11 a12 a13 a14 : Nat → Int32} {t s b g0 g2 d0 d2 e h n r x y z : Nat} {c : Nat} (hS : rl_S t s b g0 g2 d0 d2 e h n r x y z (now, a1, a2, a3, a4, a5, a6, a7, a8, a9, a10, a11, a12, a13, a14)) (hk : h + n = 1)
    (hp : ∀ u, rl_S t s b (g0+c) g2 d0 d2 e h (n+1) (r+c) x y t u → post u) : wpX_grant post (now, a1, a2, a3, a4, a5, a6, a7, a8, a9, a10, a11, a12, a13, a14) 0 (nI c) := by
  refine rl_gr0 hS hk (by omega) (hp _ ?_)
  obtain ⟨k0, k1, k1', k3, k3', k4, k4', k5, k5', k5'', k6, k6', k6'', k9, k10, k11, k11', k12, k13, k13', k14⟩ := hS
  exact ⟨k0, k1, k1', k3, k3', k4, k4', pk_us, (pk_un (by decide)).trans k5', (pk_un (by decide)).trans k5'', k6, k6', k6'', k9, k10, pk_us, (pk_un (by decide)).trans k11', pk_us, (pk_un (by decide)).trans k13, pk_us, (pk_un (by decide)).trans k14⟩
theorem rl_gr2 {post : St2 → Prop} {now : Int32} {a1 a2 a3 a4 a5 a6 a7 a8 a9 a10 a11 a12 a13 a14 : Nat → Int32} {t s b g0 g2 d0 d2 e h n r x y z : Nat} {c : Nat} (hS : rl_S t s b g0 g2 d0 d2 e h n r x y z (now, a1, a2, a3, a4, a5, a6, a7, a8, a9, a10, a11, a12, a13, a14)) (hN : rl_N t s b e x z)
    (hp : ∀ u, rl_S t s b g0 (g2+c) d0 d2 (max e t + c * s) h n r x y z u → post u) : wpX_grant post (now, a1, a2, a3, a4, a5, a6, a7, a8, a9, a10, a11, a12, a13, a14) 2 (nI c) := by
  obtain ⟨k0, k1, k1', k3, k3', k4, k4', k5, k5', k5'', k6, k6', k6'', k9, k10, k11, k11', k12, k13, k13', k14⟩ := hS
  have hv := rl_v2
  have hS1 : rl_S t s b g0 (g2+c) d0 d2 e h n r x y z (now, a1, a2, a3, a4, upd a5 2 (nI (g2 + c)), a6, a7, a8, a9, a10, a11, a12, a13, a14) :=
    ⟨k0, k1, k1', k3, k3', k4, k4', (pk_un (by decide)).trans k5, pk_us, (pk_un (by decide)).trans k5'', k6, k6', k6'', k9, k10, k11, k11', k12, k13, k13', k14⟩
  unfold wpX_grant
  refine ⟨hv, hv, nm_r (e' := upd a5 2 (nI (g2 + c))) ?_ ⟨hv, br_f ?_ ⟨hv, br_f ?_ (rl_base2 hS1 hN ⟨hv, hv, nm_r (e' := upd a9 2 (nI (max e t + c * s))) ?_ (hp _ ?_)⟩)⟩⟩⟩
  · show upd a5 2 (a5 2 + nI c) = _
    rw [k5', nI_add]
  · show ¬ a1 2 = 0
    rw [k1']
    decide
  · show ¬ a1 2 = 1
    rw [k1']
    decide
  · show upd a9 2 (nI (max e t) + nI c * a4 2) = _
    rw [k4', pk_mul, nI_add]
  · exact ⟨k0, k1, k1', k3, k3', k4, k4', (pk_un (by decide)).trans k5, pk_us, (pk_un (by decide)).trans k5'', k6, k6', k6'', Or.inl pk_us, k10, k11, k11', k12, k13, k13', k14⟩
end
section
theorem rl_ask0 {post : Int32 → St2 → Prop} {now : Int32} {a1 a2 a3 a4 a5 a6 a7 a8 a9 a10 a11 a12 a13 a14 : Nat → Int32} {t s b g0 g2 d0 d2 e x y z : Nat} {c : Nat} (hS : rl_S t s b g0 g2 d0 d2 e 0 0 0 x y z (now, a1, a2, a3, a4, a5, a6, a7, a8, a9, a10, a11, a12, a13, a14)) (hN : rl_N t s b e x z) (h1 : 1 ≤ c) (h2 : c ≤ b)
    (hp : ∀ u, rl_S t s b (g0+c) g2 d0 d2 e 0 1 c t c z u → post 1 u) : wpX_ask post (now, a1, a2, a3, a4, a5, a6, a7, a8, a9, a10, a11, a12, a13, a14) 0 (nI c) := by
  have hb := hN.2.2.2.1
  unfold wpX_ask
  refine rl_bad (by decide) (by decide) (br_t rfl (rl_cost h1 (by omega) (br_t rfl (rl_rm0 hS (Or.inl rfl) hN (by omega) (by omega) (rl_ex ?_)))))
  intro now a1 a2 a3 a4 a5 a6 a7 a8 a9 a10 a11 a12 a13 a14 hS
  exact br_t (nI_le (by omega) (by omega)) (rl_gr0a hS (rl_ex (fun now a1 a2 a3 a4 a5 a6 a7 a8 a9 a10 a11 a12 a13 a14 hS => hp _ hS)))
theorem rl_ask2 {post : Int32 → St2 → Prop} {now : Int32} {a1 a2 a3 a4 a5 a6 a7 a8 a9 a10 a11 a12 a13 a14 : Nat → Int32} {t s b g0 g2 d0 d2 e h n r x y z : Nat} {c : Nat} (hS : rl_S t s b g0 g2 d0 d2 e h n r x y z (now, a1, a2, a3, a4, a5, a6, a7, a8, a9, a10, a11, a12, a13, a14)) (hN : rl_N t s b e x z) (he : e ≤ t) (h1 : 1 ≤ c) (h2 : c ≤ b)
    (hp : ∀ u, rl_S t s b g0 (g2+c) d0 d2 (max e t + c * s) h n r x y z u → post 1 u) : wpX_ask post (now, a1, a2, a3, a4, a5, a6, a7, a8, a9, a10, a11, a12, a13, a14) 2 (nI c) := by
  have hb := hN.2.2.2.1
  have hbs := rl_bs hN
  have hR : (b * s - (e - t)) / s = b := by
    rw [show e - t = 0 by omega, Nat.sub_zero, Nat.mul_div_cancel _ hN.1]
  unfold wpX_ask
  refine rl_bad (by decide) (by decide) (br_t rfl (rl_cost h1 (by omega) (br_t rfl (rl_rm2 hS hN (by omega) (rl_ex ?_)))))
  rw [hR]
  intro now a1 a2 a3 a4 a5 a6 a7 a8 a9 a10 a11 a12 a13 a14 hS
  exact br_t (nI_le h2 (by omega)) (rl_gr2 hS hN (rl_ex (fun now a1 a2 a3 a4 a5 a6 a7 a8 a9 a10 a11 a12 a13 a14 hS => hp _ hS)))
/-! room -/
theorem rl_room0 {post : Int32 → St2 → Prop} {now : Int32} {a1 a2 a3 a4 a5 a6 a7 a8 a9 a10 a11 a12 a13 a14 : Nat → Int32} {t s b g0 g2 d0 d2 e h n r x y z : Nat} (hS : rl_S t s b g0 g2 d0 d2 e h n r x y z (now, a1, a2, a3, a4, a5, a6, a7, a8, a9, a10, a11, a12, a13, a14)) (hq : rl_Q t s h n x z) (hN : rl_N t s b e x z) (hn : n ≤ 2) (hr : r ≤ b)
    (hp : ∀ u, rl_S t s b g0 g2 d0 d2 e h n r x y z u → post (nI (b - r)) u) : wpX_room post (now, a1, a2, a3, a4, a5, a6, a7, a8, a9, a10, a11, a12, a13, a14) 0 := by
  have hb := hN.2.2.2.1
  unfold wpX_room
  refine rl_bad (by decide) (by decide) (br_t rfl (rl_rm0 hS hq hN hn hr (rl_ex ?_)))
  intro now a1 a2 a3 a4 a5 a6 a7 a8 a9 a10 a11 a12 a13 a14 hS
  exact br_t (nI_pos' (by omega)) (pk_le (b - r) 20 (fun _ => hp _ hS) (fun z => absurd z (by omega)))
theorem rl_room0p {post : Int32 → St2 → Prop} {now : Int32} {a1 a2 a3 a4 a5 a6 a7 a8 a9 a10 a11 a12 a13 a14 : Nat → Int32} {t s b g0 g2 d0 d2 e r x z : Nat} (hS : rl_S t s b g0 g2 d0 d2 e 0 1 r x r z (now, a1, a2, a3, a4, a5, a6, a7, a8, a9, a10, a11, a12, a13, a14)) (hq : x + s ≤ t) (hN : rl_N t s b e x z)
    (hp : ∀ u, rl_S t s b g0 g2 d0 d2 e 1 0 0 x r z u → post (nI b) u) : wpX_room post (now, a1, a2, a3, a4, a5, a6, a7, a8, a9, a10, a11, a12, a13, a14) 0 := by
  have hb := hN.2.2.2.1
  unfold wpX_room
  refine rl_bad (by decide) (by decide) (br_t rfl (rl_rm0p hS hq hN (rl_ex ?_)))
  intro now a1 a2 a3 a4 a5 a6 a7 a8 a9 a10 a11 a12 a13 a14 hS
  exact br_t (nI_pos' (by omega)) (pk_le b 20 (fun _ => hp _ hS) (fun z => absurd z (by omega)))
theorem rl_Rle {t s b e : Nat} (h1 : 1 ≤ s) : (b * s - (e - t)) / s ≤ b := by
  have h := Nat.div_le_div_right (c := s) (Nat.sub_le (b * s) (e - t))
  rw [Nat.mul_div_cancel _ h1] at h
  exact h
theorem rl_room2 {post : Int32 → St2 → Prop} {now : Int32} {a1 a2 a3 a4 a5 a6 a7 a8 a9 a10 a11 a12 a13 a14 : Nat → Int32} {t s b g0 g2 d0 d2 e h n r x y z : Nat} (hS : rl_S t s b g0 g2 d0 d2 e h n r x y z (now, a1, a2, a3, a4, a5, a6, a7, a8, a9, a10, a11, a12, a13, a14)) (hN : rl_N t s b e x z) (he : e - t ≤ b * s)
    (hp : ∀ u, rl_S t s b g0 g2 d0 d2 e h n r x y z u → post (nI ((b * s - (e - t)) / s)) u) : wpX_room post (now, a1, a2, a3, a4, a5, a6, a7, a8, a9, a10, a11, a12, a13, a14) 2 := by
  have hb := hN.2.2.2.1
  have hR : (b * s - (e - t)) / s ≤ b := rl_Rle hN.1
  unfold wpX_room
  refine rl_bad (by decide) (by decide) (br_t rfl (rl_rm2 hS hN he (rl_ex ?_)))
  intro now a1 a2 a3 a4 a5 a6 a7 a8 a9 a10 a11 a12 a13 a14 hS
  exact br_t (nI_pos' (by omega)) (pk_le ((b * s - (e - t)) / s) 20 (fun _ => hp _ hS) (fun z => absurd z (by omega)))
/-! waiting -/
theorem rl_lw {post : Int32 → Prop} {now : Int32} {a1 a2 a3 a4 a5 a6 a7 a8 a9 a10 a11 a12 a13 a14 : Nat → Int32} {t s b g0 g2 d0 d2 e r x y z : Nat} {c : Nat} (hS : rl_S t s b g0 g2 d0 d2 e 0 1 r x y z (now, a1, a2, a3, a4, a5, a6, a7, a8, a9, a10, a11, a12, a13, a14)) (hN : rl_N t s b e x z) (hr : r ≤ b) (hc : c ≤ 20) (ho : b < r + c) (hx : t < x + s)
    (hp : post (nI (x + s - t))) : wpX_logWait post (now, a1, a2, a3, a4, a5, a6, a7, a8, a9, a10, a11, a12, a13, a14) 0 (nI c) := by
  obtain ⟨k0, k1, k1', k3, k3', k4, k4', k5, k5', k5'', k6, k6', k6'', k9, k10, k11, k11', k12, k13, k13', k14⟩ := hS
  obtain ⟨n1, n2, n3, n4, n5, n6, n7, n8, n9⟩ := hN
  have hv := rl_v0
  unfold wpX_logWait
  refine ⟨hv, hv, nm_r (e' := nI (r + c - b)) ?_ ⟨2, ?_⟩⟩
  · show a12 0 + nI c - a3 0 = _
    rw [k12, k3, nI_add, pk_sub (by omega)]
  · refine ⟨hv, br_f ?_ (br_f (nI_nle (by omega) (by omega)) ⟨hv, nm_r (e' := nI 0) ?_ ⟨pk_in 0 128 (by decide), nm_e ⟨pk_in 0 128 (by decide), hv, nm_r (e' := nI (x + s - t)) ?_ (nm_r (e' := nI 1) (by rfl) ⟨hv, br_t ?_ hp⟩)⟩⟩⟩)⟩
    · show ¬ a11 0 ≤ 0
      rw [k11]
      decide
    · show (0 : Int32) * 32 + ((a10 0 + 0) &&& 31) = nI 0
      rw [k10]
      rfl
    · show a13 0 + a4 0 - now = _
      rw [k13, k4, k0, nI_add, pk_sub (by omega)]
    · show a11 0 ≤ nI 1
      rw [k11]
      decide
theorem rl_wait0 {post : Int32 → St2 → Prop} {now : Int32} {a1 a2 a3 a4 a5 a6 a7 a8 a9 a10 a11 a12 a13 a14 : Nat → Int32} {t s b g0 g2 d0 d2 e h n r x y z : Nat} {c : Nat} (hS : rl_S t s b g0 g2 d0 d2 e h n r x y z (now, a1, a2, a3, a4, a5, a6, a7, a8, a9, a10, a11, a12, a13, a14)) (hq : rl_Q t s h n x z) (hN : rl_N t s b e x z) (hn : n ≤ 2) (hr : r ≤ b) (h1 : 1 ≤ c) (h2 : c ≤ b)
    (hl : b - r < c → h = 0 ∧ n = 1 ∧ t < x + s)
    (hp0 : c ≤ b - r → ∀ u, rl_S t s b g0 g2 d0 d2 e h n r x y z u → post 0 u) (hp1 : b - r < c → ∀ u, rl_S t s b g0 g2 d0 d2 e h n r x y z u → post (nI (x + s - t)) u) : wpX_waitFor post (now, a1, a2, a3, a4, a5, a6, a7, a8, a9, a10, a11, a12, a13, a14) 0 (nI c) := by
  have hb := hN.2.2.2.1
  have k3 : a3 0 = nI b := hS.2.2.2.1
  unfold wpX_waitFor
  refine rl_bad (by decide) (by decide) (br_t rfl (rl_cost h1 (by omega) (br_t rfl ⟨rl_v0, pk_le c b (fun _ => rl_rm0 hS hq hN hn hr (rl_ex ?_)) (fun z => absurd z (by omega)) rfl k3⟩)))
  intro now a1 a2 a3 a4 a5 a6 a7 a8 a9 a10 a11 a12 a13 a14 hS
  refine pk_lt (b - r) c (fun hh => ⟨rl_v0, br_t ?_ ?_⟩) (fun hh => hp0 hh _ hS)
  · show a1 0 = 1
    rw [hS.2.1]
    rfl
  · obtain ⟨q1, q2, q3⟩ := hl hh
    have hS1 := hS
    rw [q1, q2] at hS1
    exact rl_lw hS1 hN hr (by omega) (by omega) q3 (hp1 hh _ hS)
theorem rl_w2 {t s b e c : Nat} (h1 : 1 ≤ s) (h2 : c ≤ b) (he : e - t ≤ b * s) (h : (b * s - (e - t)) / s < c) : (b - c) * s < e - t := by
  rw [Nat.div_lt_iff_lt_mul h1] at h
  have h3 : c * s ≤ b * s := Nat.mul_le_mul_right s h2
  rw [Nat.sub_mul]
  omega
theorem rl_w2v {t s b e c : Nat} (h2 : c ≤ b) (h : (b - c) * s < e - t) : nI e + (nI c - nI b) * nI s - nI t = nI (e - t - (b - c) * s) := by
  have e1 : nI b = nI c + nI (b - c) := by
    rw [nI_add]
    exact congrArg nI (by omega)
  have e2 : nI e = nI t + nI (b - c) * nI s + nI (e - t - (b - c) * s) := by
    rw [pk_mul, nI_add, nI_add]
    exact congrArg nI (by omega)
  rw [e2, e1]
  grind
theorem rl_wait2 {post : Int32 → St2 → Prop} {now : Int32} {a1 a2 a3 a4 a5 a6 a7 a8 a9 a10 a11 a12 a13 a14 : Nat → Int32} {t s b g0 g2 d0 d2 e h n r x y z : Nat} {c : Nat} (hS : rl_S t s b g0 g2 d0 d2 e h n r x y z (now, a1, a2, a3, a4, a5, a6, a7, a8, a9, a10, a11, a12, a13, a14)) (hN : rl_N t s b e x z) (he : e - t ≤ b * s) (h1 : 1 ≤ c) (h2 : c ≤ b)
    (hp0 : c ≤ (b * s - (e - t)) / s → ∀ u, rl_S t s b g0 g2 d0 d2 e h n r x y z u → post 0 u) (hp1 : (b * s - (e - t)) / s < c → ∀ u, rl_S t s b g0 g2 d0 d2 e h n r x y z u → post (nI (e - t - (b - c) * s)) u) : wpX_waitFor post (now, a1, a2, a3, a4, a5, a6, a7, a8, a9, a10, a11, a12, a13, a14) 2 (nI c) := by
  have hb := hN.2.2.2.1
  have hR : (b * s - (e - t)) / s ≤ b := rl_Rle hN.1
  have k3 : a3 2 = nI b := hS.2.2.2.2.1
  unfold wpX_waitFor
  refine rl_bad (by decide) (by decide) (br_t rfl (rl_cost h1 (by omega) (br_t rfl ⟨rl_v2, pk_le c b (fun _ => rl_rm2 hS hN he (rl_ex ?_)) (fun z => absurd z (by omega)) rfl k3⟩)))
  intro now a1 a2 a3 a4 a5 a6 a7 a8 a9 a10 a11 a12 a13 a14 hS
  refine pk_lt ((b * s - (e - t)) / s) c (fun hh => ⟨rl_v2, br_f ?_ ⟨rl_v2, br_f ?_ ⟨rl_v2, rl_v2, rl_v2, ?_⟩⟩⟩) (fun hh => hp0 hh _ hS)
  · show ¬ a1 2 = 1
    rw [hS.2.2.1]
    decide
  · show ¬ a1 2 = 0
    rw [hS.2.2.1]
    decide
  · have hS1 := hS
    obtain ⟨k0, k1, k1', k3, k3', k4, k4', k5, k5', k5'', k6, k6', k6'', k9, k10, k11, k11', k12, k13, k13', k14⟩ := hS1
    have hw := rl_w2 hN.1 h2 he hh
    have k9' : a9 2 = nI e := by
      rcases k9 with k | ⟨ke, _⟩
      · exact k
      · omega
    have ee : a9 2 + (nI c - a3 2) * a4 2 - now = nI (e - t - (b - c) * s) := by
      rw [k9', k3', k4', k0]
      exact rl_w2v h2 hw
    exact ek_v (P := fun v => post v (now, a1, a2, a3, a4, a5, a6, a7, a8, a9, a10, a11, a12, a13, a14)) ee (hp1 hh _ hS)
theorem rl_wait2b {post : Int32 → St2 → Prop} {now : Int32} {a1 a2 a3 a4 a5 a6 a7 a8 a9 a10 a11 a12 a13 a14 : Nat → Int32} {t s b g0 g2 d0 d2 e h n r x y z : Nat} (hS : rl_S t s b g0 g2 d0 d2 e h n r x y z (now, a1, a2, a3, a4, a5, a6, a7, a8, a9, a10, a11, a12, a13, a14)) (hN : rl_N t s b e x z) (he : e - t ≤ b * s)
    (hp : ∀ u, rl_S t s b g0 g2 d0 d2 e h n r x y z u → post (nI (e - t)) u) : wpX_waitFor post (now, a1, a2, a3, a4, a5, a6, a7, a8, a9, a10, a11, a12, a13, a14) 2 (nI b) := by
  refine rl_wait2 (c := b) hS hN he hN.2.2.1 (Nat.le_refl b) (fun q u hu => ?_) (fun q u hu => ?_)
  · rw [Nat.le_div_iff_mul_le hN.1] at q
    have hb1 : 1 * 1 ≤ b * s := Nat.mul_le_mul hN.2.2.1 hN.1
    have h := hp u hu
    rw [show e - t = 0 by omega] at h
    exact h
  · have h := hp u hu
    rw [Nat.sub_self, Nat.zero_mul, Nat.sub_zero]
    exact h
theorem rl_waitbad {post : Int32 → St2 → Prop} {now : Int32} {a1 a2 a3 a4 a5 a6 a7 a8 a9 a10 a11 a12 a13 a14 : Nat → Int32} (hp : post (-3) (now, a1, a2, a3, a4, a5, a6, a7, a8, a9, a10, a11, a12, a13, a14)) : wpX_waitFor post (now, a1, a2, a3, a4, a5, a6, a7, a8, a9, a10, a11, a12, a13, a14) 0 0 := by
  unfold wpX_waitFor
  refine rl_bad (by decide) (by decide) (br_t rfl ?_)
  unfold wpX_badCost
  exact br_t (by decide) (br_f (by decide) hp)
/-! askAll -/
def rl_67P (post : Int32 → St2 → Prop) (p c x3 : Int32) (u : St2) : Prop := match u with
  | (now, a1, a2, a3, a4, a5, a6, a7, a8, a9, a10, a11, a12, a13, a14) => ∃ fu : Nat, wX_askAll_67 post p c x3 fu 0 now a1 a2 a3 a4 a5 a6 a7 a8 a9 a10 a11 a12 a13 a14
theorem rl_67z {post : Int32 → St2 → Prop} {p c : Int32} {now : Int32} {a1 a2 a3 a4 a5 a6 a7 a8 a9 a10 a11 a12 a13 a14 : Nat → Int32} (hp : post 0 (now, a1, a2, a3, a4, a5, a6, a7, a8, a9, a10, a11, a12, a13, a14)) : rl_67P post p c 0 (now, a1, a2, a3, a4, a5, a6, a7, a8, a9, a10, a11, a12, a13, a14) := by
  refine ⟨1, ?_⟩
  refine br_f (by decide) (br_t rfl ?_)
  unfold wX_askAll_100
  exact br_t rfl hp
theorem rl_67n {post : Int32 → St2 → Prop} {p c : Int32} {now : Int32} {a1 a2 a3 a4 a5 a6 a7 a8 a9 a10 a11 a12 a13 a14 : Nat → Int32}
    (hb0 : ¬ ((p >>> ((0 : Int32) &&& 31)) &&& 1) = 1) (hb1 : ¬ ((p >>> ((1 : Int32) &&& 31)) &&& 1) = 1) (hb2 : ¬ ((p >>> ((2 : Int32) &&& 31)) &&& 1) = 1) (hb3 : ¬ ((p >>> ((3 : Int32) &&& 31)) &&& 1) = 1)
    (hp : post 1 (now, a1, a2, a3, a4, a5, a6, a7, a8, a9, a10, a11, a12, a13, a14)) : rl_67P post p c 1 (now, a1, a2, a3, a4, a5, a6, a7, a8, a9, a10, a11, a12, a13, a14) := by
  refine ⟨5, ?_⟩
  refine br_f (by decide) (br_f (by decide) (br_f hb0 (nm_r (e' := 1) (by rfl) ?_)))
  refine br_f (by decide) (br_f (by decide) (br_f hb1 (nm_r (e' := 2) (by rfl) ?_)))
  refine br_f (by decide) (br_f (by decide) (br_f hb2 (nm_r (e' := 3) (by rfl) ?_)))
  refine br_f (by decide) (br_f (by decide) (br_f hb3 (nm_r (e' := 4) (by rfl) ?_)))
  refine br_t (by decide) ?_
  unfold wX_askAll_100
  exact br_f (by decide) hp
theorem rl_67g {post : Int32 → St2 → Prop} {p : Int32} {now : Int32} {a1 a2 a3 a4 a5 a6 a7 a8 a9 a10 a11 a12 a13 a14 : Nat → Int32} {t s b g0 g2 d0 d2 e h n r x y z : Nat} {c : Nat}
    (hb0 : ((p >>> ((0 : Int32) &&& 31)) &&& 1) = 1) (hb1 : ¬ ((p >>> ((1 : Int32) &&& 31)) &&& 1) = 1) (hb2 : ((p >>> ((2 : Int32) &&& 31)) &&& 1) = 1) (hb3 : ¬ ((p >>> ((3 : Int32) &&& 31)) &&& 1) = 1)
    (hS : rl_S t s b g0 g2 d0 d2 e h n r x y z (now, a1, a2, a3, a4, a5, a6, a7, a8, a9, a10, a11, a12, a13, a14)) (hN : rl_N t s b e x z) (hk : h + n = 1)
    (hp : ∀ u, rl_S t s b (g0+c) (g2+c) d0 d2 (max e t + c * s) h (n+1) (r+c) x y t u → post 1 u) : rl_67P post p (nI c) 1 (now, a1, a2, a3, a4, a5, a6, a7, a8, a9, a10, a11, a12, a13, a14) := by
  have hN2 : rl_N t s b e x t := ⟨hN.1, hN.2.1, hN.2.2.1, hN.2.2.2.1, hN.2.2.2.2.1, hN.2.2.2.2.2.1, hN.2.2.2.2.2.2.1, hN.2.2.2.2.2.2.2.1, hN.2.2.2.2.2.1⟩
  refine ⟨5, ?_⟩
  refine br_f (by decide) (br_f (by decide) (br_t hb0 (rl_gr0b hS hk (rl_ex ?_))))
  intro now a1 a2 a3 a4 a5 a6 a7 a8 a9 a10 a11 a12 a13 a14 hS
  refine nm_r (e' := 1) (by rfl) ?_
  refine br_f (by decide) (br_f (by decide) (br_f hb1 (nm_r (e' := 2) (by rfl) ?_)))
  refine br_f (by decide) (br_f (by decide) (br_t hb2 (rl_gr2 hS hN2 (rl_ex ?_))))
  intro now a1 a2 a3 a4 a5 a6 a7 a8 a9 a10 a11 a12 a13 a14 hS
  refine nm_r (e' := 3) (by rfl) ?_
  refine br_f (by decide) (br_f (by decide) (br_f hb3 (nm_r (e' := 4) (by rfl) ?_)))
  refine br_t (by decide) ?_
  unfold wX_askAll_100
  exact br_f (by decide) (hp _ hS)
theorem rl_15_3 {post : Int32 → St2 → Prop} {p c x3 : Int32} {now : Int32} {a1 a2 a3 a4 a5 a6 a7 a8 a9 a10 a11 a12 a13 a14 : Nat → Int32} (hb3 : ¬ ((p >>> ((3 : Int32) &&& 31)) &&& 1) = 1) (H : rl_67P post p c x3 (now, a1, a2, a3, a4, a5, a6, a7, a8, a9, a10, a11, a12, a13, a14)) : wX_askAll_15 post p c 2 x3 3 now a1 a2 a3 a4 a5 a6 a7 a8 a9 a10 a11 a12 a13 a14 := by
  refine br_f (by decide) (br_f hb3 (nm_r (e' := 4) (by rfl) ?_))
  exact br_t (by decide) H
theorem rl_15_1 {post : Int32 → St2 → Prop} {p x3 : Int32} {now : Int32} {a1 a2 a3 a4 a5 a6 a7 a8 a9 a10 a11 a12 a13 a14 : Nat → Int32} {t s b g0 g2 d0 d2 e h n r x y z : Nat} {c : Nat}
    (hb1 : ¬ ((p >>> ((1 : Int32) &&& 31)) &&& 1) = 1) (hb2 : ((p >>> ((2 : Int32) &&& 31)) &&& 1) = 1) (hb3 : ¬ ((p >>> ((3 : Int32) &&& 31)) &&& 1) = 1)
    (hS : rl_S t s b g0 g2 d0 d2 e h n r x y z (now, a1, a2, a3, a4, a5, a6, a7, a8, a9, a10, a11, a12, a13, a14)) (hN : rl_N t s b e x z) (he : e - t ≤ b * s) (hc : c ≤ 20)
    (hT : c ≤ (b * s - (e - t)) / s → ∀ u, rl_S t s b g0 g2 d0 d2 e h n r x y z u → rl_67P post p (nI c) x3 u)
    (hF : (b * s - (e - t)) / s < c → ∀ u, rl_S t s b g0 g2 d0 (d2+1) e h n r x y z u → rl_67P post p (nI c) 0 u) : wX_askAll_15 post p (nI c) 4 x3 1 now a1 a2 a3 a4 a5 a6 a7 a8 a9 a10 a11 a12 a13 a14 := by
  have hb := hN.2.2.2.1
  have hR : (b * s - (e - t)) / s ≤ b := rl_Rle hN.1
  refine br_f (by decide) (br_f hb1 (nm_r (e' := 2) (by rfl) ?_))
  refine br_f (by decide) (br_t hb2 (rl_rm2 hS hN he (rl_ex ?_)))
  intro now a1 a2 a3 a4 a5 a6 a7 a8 a9 a10 a11 a12 a13 a14 hS
  refine pk_le c ((b * s - (e - t)) / s) (fun hh => nm_r (e' := 3) (by rfl) (rl_15_3 hb3 (hT hh _ hS))) (fun hh => ⟨rl_v2, rl_v2, nm_r (e' := upd a6 2 (nI (d2 + 1))) ?_ (nm_r (e' := 3) (by rfl) (rl_15_3 hb3 (hF hh _ ?_)))⟩)
  · show upd a6 2 (a6 2 + 1) = _
    rw [hS.2.2.2.2.2.2.2.2.2.2.2.1, nI_1]
  · obtain ⟨k0, k1, k1', k3, k3', k4, k4', k5, k5', k5'', k6, k6', k6'', k9, k10, k11, k11', k12, k13, k13', k14⟩ := hS
    exact ⟨k0, k1, k1', k3, k3', k4, k4', k5, k5', k5'', (pk_un (by decide)).trans k6, pk_us, (pk_un (by decide)).trans k6'', k9, k10, k11, k11', k12, k13, k13', k14⟩
theorem rl_all {post : Int32 → St2 → Prop} {p : Int32} {now : Int32} {a1 a2 a3 a4 a5 a6 a7 a8 a9 a10 a11 a12 a13 a14 : Nat → Int32} {t s b g0 g2 d0 d2 e h n r x y z : Nat} {c : Nat}
    (hb0 : ((p >>> ((0 : Int32) &&& 31)) &&& 1) = 1) (hb1 : ¬ ((p >>> ((1 : Int32) &&& 31)) &&& 1) = 1) (hb2 : ((p >>> ((2 : Int32) &&& 31)) &&& 1) = 1) (hb3 : ¬ ((p >>> ((3 : Int32) &&& 31)) &&& 1) = 1)
    (hS : rl_S t s b g0 g2 d0 d2 e h n r x y z (now, a1, a2, a3, a4, a5, a6, a7, a8, a9, a10, a11, a12, a13, a14)) (hq : rl_Q t s h n x z) (hN : rl_N t s b e x z) (hk : h + n = 1) (hr : r ≤ b) (he : e - t ≤ b * s) (h1 : 1 ≤ c) (h2 : c ≤ 20)
    (hpG : c ≤ b - r → c ≤ (b * s - (e - t)) / s → ∀ u, rl_S t s b (g0+c) (g2+c) d0 d2 (max e t + c * s) h (n+1) (r+c) x y t u → post 1 u)
    (hpF : b - r < c → c ≤ (b * s - (e - t)) / s → ∀ u, rl_S t s b g0 g2 (d0+1) d2 e h n r x y z u → post 0 u)
    (hpT : c ≤ b - r → (b * s - (e - t)) / s < c → ∀ u, rl_S t s b g0 g2 d0 (d2+1) e h n r x y z u → post 0 u)
    (hpB : b - r < c → (b * s - (e - t)) / s < c → ∀ u, rl_S t s b g0 g2 (d0+1) (d2+1) e h n r x y z u → post 0 u) : wpX_askAll post (now, a1, a2, a3, a4, a5, a6, a7, a8, a9, a10, a11, a12, a13, a14) p (nI c) := by
  have hb := hN.2.2.2.1
  unfold wpX_askAll
  refine rl_cost h1 h2 (br_t rfl ⟨5, ?_⟩)
  refine br_f (by decide) (br_t hb0 (rl_rm0 hS hq hN (by omega) hr (rl_ex ?_)))
  intro now a1 a2 a3 a4 a5 a6 a7 a8 a9 a10 a11 a12 a13 a14 hS
  refine pk_le c (b - r) (fun hh => nm_r (e' := 1) (by rfl) ?_) (fun hh => ⟨rl_v0, rl_v0, nm_r (e' := upd a6 0 (nI (d0 + 1))) ?_ (nm_r (e' := 1) (by rfl) ?_)⟩)
  · refine rl_15_1 hb1 hb2 hb3 hS hN he h2 (fun h3 => rl_ex ?_) (fun h3 => rl_ex ?_)
    · exact fun now a1 a2 a3 a4 a5 a6 a7 a8 a9 a10 a11 a12 a13 a14 hS => rl_67g hb0 hb1 hb2 hb3 hS hN hk (hpG hh h3)
    · exact fun now a1 a2 a3 a4 a5 a6 a7 a8 a9 a10 a11 a12 a13 a14 hS => rl_67z (hpT hh h3 _ hS)
  · show upd a6 0 (a6 0 + 1) = _
    rw [hS.2.2.2.2.2.2.2.2.2.2.1, nI_1]
  · have hS1 : rl_S t s b g0 g2 (d0+1) d2 e h n r x y z (now, a1, a2, a3, a4, a5, upd a6 0 (nI (d0 + 1)), a7, a8, a9, a10, a11, a12, a13, a14) := by
      obtain ⟨k0, k1, k1', k3, k3', k4, k4', k5, k5', k5'', k6, k6', k6'', k9, k10, k11, k11', k12, k13, k13', k14⟩ := hS
      exact ⟨k0, k1, k1', k3, k3', k4, k4', k5, k5', k5'', pk_us, (pk_un (by decide)).trans k6', (pk_un (by decide)).trans k6'', k9, k10, k11, k11', k12, k13, k13', k14⟩
    refine rl_15_1 hb1 hb2 hb3 hS1 hN he h2 (fun h3 => rl_ex ?_) (fun h3 => rl_ex ?_)
    · exact fun now a1 a2 a3 a4 a5 a6 a7 a8 a9 a10 a11 a12 a13 a14 hS => rl_67z (hpF hh h3 _ hS)
    · exact fun now a1 a2 a3 a4 a5 a6 a7 a8 a9 a10 a11 a12 a13 a14 hS => rl_67z (hpB hh h3 _ hS)
theorem rl_all0 {post : Int32 → St2 → Prop} {now : Int32} {a1 a2 a3 a4 a5 a6 a7 a8 a9 a10 a11 a12 a13 a14 : Nat → Int32} (hp : post 1 (now, a1, a2, a3, a4, a5, a6, a7, a8, a9, a10, a11, a12, a13, a14)) : wpX_askAll post (now, a1, a2, a3, a4, a5, a6, a7, a8, a9, a10, a11, a12, a13, a14) 0 7 := by
  unfold wpX_askAll
  refine rl_cost (c := 7) (by decide) (by decide) (br_t rfl ⟨5, ?_⟩)
  refine br_f (by decide) (br_f (by decide) (nm_r (e' := 1) (by rfl) ?_))
  refine br_f (by decide) (br_f (by decide) (nm_r (e' := 2) (by rfl) ?_))
  refine br_f (by decide) (br_f (by decide) (nm_r (e' := 3) (by rfl) ?_))
  refine br_f (by decide) (br_f (by decide) (nm_r (e' := 4) (by rfl) ?_))
  exact br_t (by decide) (rl_67n (p := 0) (c := 7) (by decide) (by decide) (by decide) (by decide) hp)
theorem rl_allbad {post : Int32 → St2 → Prop} {now : Int32} {a1 a2 a3 a4 a5 a6 a7 a8 a9 a10 a11 a12 a13 a14 : Nat → Int32} (hp : post (-3) (now, a1, a2, a3, a4, a5, a6, a7, a8, a9, a10, a11, a12, a13, a14)) : wpX_askAll post (now, a1, a2, a3, a4, a5, a6, a7, a8, a9, a10, a11, a12, a13, a14) 15 21 := by
  unfold wpX_askAll wpX_badCost
  exact br_f (by decide) (br_f (by decide) (br_f (by decide) hp))
end
section
theorem rl_time {post : Int32 → Prop} {now : Int32} {a1 a2 a3 a4 a5 a6 a7 a8 a9 a10 a11 a12 a13 a14 : Nat → Int32} {v : Int32} (he : now = v) (hp : post v) : wpX_time post (now, a1, a2, a3, a4, a5, a6, a7, a8, a9, a10, a11, a12, a13, a14) := by
  subst he
  exact hp
theorem rl_room0x {post : Int32 → St2 → Prop} {now : Int32} {a1 a2 a3 a4 a5 a6 a7 a8 a9 a10 a11 a12 a13 a14 : Nat → Int32} {t s b g0 g2 d0 d2 e r x z : Nat} {g : Nat} (hS : rl_S t s b g0 g2 d0 d2 e 0 1 r x r z (now, a1, a2, a3, a4, a5, a6, a7, a8, a9, a10, a11, a12, a13, a14)) (hN : rl_N t s b e x z) (hr : r ≤ b)
    (hg : (t < x + s ∧ g = r) ∨ (x + s ≤ t ∧ g = 0))
    (hp : ∀ h n, h + n = 1 → rl_Q t s h n x z → (g = 0 ∨ (h = 0 ∧ n = 1 ∧ t < x + s)) → ∀ u, rl_S t s b g0 g2 d0 d2 e h n g x r z u → post (nI (b - g)) u) : wpX_room post (now, a1, a2, a3, a4, a5, a6, a7, a8, a9, a10, a11, a12, a13, a14) 0 := by
  rcases hg with ⟨h1, h2⟩ | ⟨h1, h2⟩
  · subst h2
    exact rl_room0 hS (Or.inr (Or.inl ⟨rfl, h1⟩)) hN (by omega) hr (hp 0 1 rfl (Or.inr (Or.inl ⟨rfl, h1⟩)) (Or.inr ⟨rfl, rfl, h1⟩))
  · subst h2
    exact rl_room0p hS h1 hN (hp 1 0 rfl (Or.inl rfl) (Or.inl rfl))
def rl_787W (post : Int32 → St0 → Prop) (mc ms : Nat) (x6 x8 : Int32) (kc ks : Nat) (n i : Nat) (u : St2) : Prop := match u with
  | (now, a1, a2, a3, a4, a5, a6, a7, a8, a9, a10, a11, a12, a13, a14) => wL_lawOf_787 post mc ms x6 x8 kc ks n (nI i) now a1 a2 a3 a4 a5 a6 a7 a8 a9 a10 a11 a12 a13 a14
theorem rl_Rb {t s b e : Nat} (h1 : 1 ≤ s) (h : e ≤ t) : (b * s - (e - t)) / s = b := by
  rw [show e - t = 0 by omega, Nat.sub_zero, Nat.mul_div_cancel _ h1]
theorem rl_787 {post : Int32 → St0 → Prop} {mc ms kc ks : Nat} {now : Int32} {a1 a2 a3 a4 a5 a6 a7 a8 a9 a10 a11 a12 a13 a14 : Nat → Int32} {s b g0 g2 d0 d2 e h n r x y z : Nat} {d : Nat} (hS : rl_S (50+d) s b g0 g2 d0 d2 e h n r x y z (now, a1, a2, a3, a4, a5, a6, a7, a8, a9, a10, a11, a12, a13, a14)) (hN : rl_N (50 + d) s b e x z) (hd : d ≤ 11) (he : e ≤ 1000) (hp : post 1 ()) :
    ∃ fu, wL_lawOf_787 post mc ms (nI b) (nI d) kc ks fu 0 now a1 a2 a3 a4 a5 a6 a7 a8 a9 a10 a11 a12 a13 a14 := by
  obtain ⟨n1, n2, n3, n4, n5, n6, n7, n8, n9⟩ := hN
  refine pk_loop (rl_787W post mc ms (nI b) (nI d) kc ks) (fun i u => rl_S (50 + d + 1000 * i) s b g0 g2 d0 d2 e h n r x y z u) 8 0 (now, a1, a2, a3, a4, a5, a6, a7, a8, a9, a10, a11, a12, a13, a14) (by omega) hS ?_ ?_
  · intro fu
    refine rl_ex ?_
    intro now a1 a2 a3 a4 a5 a6 a7 a8 a9 a10 a11 a12 a13 a14 hS
    have hT : nI (50 + d + 1000 * 8) = 8050 + nI d := by
      rw [show (8050 : Int32) = nI 8050 from rfl, nI_add]
      exact congrArg nI (by omega)
    have hN : rl_N (50 + d + 1000 * 8) s b e x z := by
      unfold rl_N
      omega
    have hR : (b * s - (e - (50 + d + 1000 * 8))) / s = b := rl_Rb n1 (by omega)
    refine br_t (by decide) (rl_time hS.1 (br_t hT (rl_room2 hS hN (by omega) ?_)))
    rw [hR]
    refine rl_ex ?_
    intro now a1 a2 a3 a4 a5 a6 a7 a8 a9 a10 a11 a12 a13 a14 hS
    refine br_t rfl (rl_passbad (br_t rfl (rl_pass (c := 0) hS (by omega) (by omega) (rl_ex ?_))))
    intro now a1 a2 a3 a4 a5 a6 a7 a8 a9 a10 a11 a12 a13 a14 hS
    refine br_t hT (rl_wait2 (c := b) hS hN (by omega) n3 (Nat.le_refl b) (fun _ => rl_ex ?_) (fun z => ?_))
    · exact fun now a1 a2 a3 a4 a5 a6 a7 a8 a9 a10 a11 a12 a13 a14 hS => br_t rfl hp
    · exact absurd z (by rw [show 50 + d + 1000 * 8 + 0 = 50 + d + 1000 * 8 from rfl, hR]; exact Nat.lt_irrefl b)
  · intro fu i u hi
    refine rl_ex (I := fun u => rl_S (50 + d + 1000 * i) s b g0 g2 d0 d2 e h n r x y z u) (Q := fun u => (∀ u', rl_S (50 + d + 1000 * (i + 1)) s b g0 g2 d0 d2 e h n r x y z u' → rl_787W post mc ms (nI b) (nI d) kc ks fu (i + 1) u') → rl_787W post mc ms (nI b) (nI d) kc ks (fu + 1) i u) ?_ u
    intro now a1 a2 a3 a4 a5 a6 a7 a8 a9 a10 a11 a12 a13 a14 hS hw
    refine pk_le 8 i (fun z => absurd z (by omega)) (fun _ => rl_pass (c := 1000) hS (by omega) (by omega) (rl_ex ?_))
    intro now a1 a2 a3 a4 a5 a6 a7 a8 a9 a10 a11 a12 a13 a14 hS
    rw [show 50 + d + 1000 * i + 1000 = 50 + d + 1000 * (i + 1) by omega] at hS
    exact nm_r (nI_1 i) (hw _ hS)
theorem rl_627 {post : Int32 → St0 → Prop} {mc ms kc ks : Nat} {now : Int32} {a1 a2 a3 a4 a5 a6 a7 a8 a9 a10 a11 a12 a13 a14 : Nat → Int32} {s b g0 g2 d0 d2 e h n r x y z : Nat} {d : Nat} (hS : rl_S (50+d) s b g0 g2 d0 d2 e h n r x y z (now, a1, a2, a3, a4, a5, a6, a7, a8, a9, a10, a11, a12, a13, a14)) (hN : rl_N (50 + d) s b e x z) (hd : d ≤ 11) (he : e ≤ 1000) (hp : post 1 ()) :
    wL_lawOf_627 post mc ms (nI s) (nI b) (nI d) kc ks now a1 a2 a3 a4 a5 a6 a7 a8 a9 a10 a11 a12 a13 a14 := by
  have hN' := hN
  obtain ⟨n1, n2, n3, n4, n5, n6, n7, n8, n9⟩ := hN'
  unfold wL_lawOf_627
  have k5'' : a5 1 = nI 0 := hS.2.2.2.2.2.2.2.2.2.1
  have k6'' : a6 3 = nI 0 := hS.2.2.2.2.2.2.2.2.2.2.2.2.1
  have hT : nI (50 + d) = 50 + nI d := by
    rw [show (50 : Int32) = nI 50 from rfl, nI_add]
  refine rl_all0 (br_t rfl (rl_allbad (br_t rfl (rl_granted rl_c1 rl_v1 (by decide) (by decide) k5'' (br_t rfl (rl_denied rl_c3 rl_v3 (by decide) (by decide) k6'' (br_t rfl (rl_time hS.1 (br_t hT (rl_setbad n3 n4 (br_t rfl (rl_set0 hS n1 n2 n3 n4 (rl_ex ?_)))))))))))))
  intro now a1 a2 a3 a4 a5 a6 a7 a8 a9 a10 a11 a12 a13 a14 hS
  have k5 : a5 0 = nI 0 := hS.2.2.2.2.2.2.2.1
  have k6 : a6 0 = nI 0 := hS.2.2.2.2.2.2.2.2.2.2.1
  refine br_t rfl (rl_granted rl_c0 rl_v0 (by decide) (by decide) k5 (br_t rfl (rl_denied rl_c0 rl_v0 (by decide) (by decide) k6 (br_t rfl (rl_room0 hS (Or.inl rfl) hN (by omega) (by omega) (rl_ex ?_))))))
  intro now a1 a2 a3 a4 a5 a6 a7 a8 a9 a10 a11 a12 a13 a14 hS
  refine br_t (nI_le n4 (by decide)) ?_
  unfold wL_lawOf_767
  exact br_t rfl (rl_waitbad (br_t rfl (rl_787 hS hN hd he hp)))
/-- both below 20: the second askAll, then the rest -/
theorem rl_516 {post : Int32 → St0 → Prop} {mc ms kc ks : Nat} {now : Int32} {a1 a2 a3 a4 a5 a6 a7 a8 a9 a10 a11 a12 a13 a14 : Nat → Int32} {s b a d g k d0 d2 e h n : Nat} {v : Int32}
    (hS : rl_S (50 + d) s b a a d0 d2 e h n g 50 a 0 (now, a1, a2, a3, a4, a5, a6, a7, a8, a9, a10, a11, a12, a13, a14)) (hq : rl_Q (50 + d) s h n 50 0) (hN : rl_N (50 + d) s b e 50 0) (hd : d ≤ 11) (he : e ≤ 250) (he2 : e - (50 + d) ≤ b * s) (hk : h + n = 1) (hg : g ≤ b)
    (hk1 : k ≤ b - g) (hk2 : k ≤ (b * s - (e - (50 + d))) / s) (hk3 : k < 20) (hp : post 1 ()) :
    wL_lawOf_516 post mc ms (nI s) (nI b) (nI a) (nI d) (nI g) (nI k) v v kc ks now a1 a2 a3 a4 a5 a6 a7 a8 a9 a10 a11 a12 a13 a14 := by
  have hN' := hN
  obtain ⟨n1, n2, n3, n4, n5, n6, n7, n8, n9⟩ := hN'
  unfold wL_lawOf_516
  refine br_t rfl (pk_lt k 20 (fun _ => pk_le k 0 (fun _ => rl_627 hS hN hd (by omega) hp) (fun h0 => ?_)) (fun z => absurd z (by omega)))
  refine rl_all (p := 21) (by decide) (by decide) (by decide) (by decide) hS hq hN hk hg he2 (by omega) (by omega) (fun _ _ => rl_ex ?_) (fun z _ => absurd z (by omega)) (fun _ z => absurd z (by omega)) (fun z _ => absurd z (by omega))
  intro now a1 a2 a3 a4 a5 a6 a7 a8 a9 a10 a11 a12 a13 a14 hS
  have k5 : a5 0 = nI (a + k) := hS.2.2.2.2.2.2.2.1
  have k5' : a5 2 = nI (a + k) := hS.2.2.2.2.2.2.2.2.1
  have hks : k * s ≤ 200 := Nat.mul_le_mul (show k ≤ 20 by omega) n2
  have hN2 : rl_N (50 + d) s b (max e (50 + d) + k * s) 50 (50 + d) := by
    unfold rl_N
    omega
  have hq2 : rl_Q (50 + d) s h (n + 1) 50 (50 + d) := by
    unfold rl_Q at hq ⊢
    omega
  refine br_t rfl (rl_granted rl_c0 rl_v0 (by decide) (by decide) k5 (br_t (nI_add a k).symm (rl_granted rl_c2 rl_v2 (by decide) (by decide) k5' (br_t (nI_add a k).symm (rl_room0 hS hq2 hN2 (by omega) (by omega) (rl_ex ?_))))))
  intro now a1 a2 a3 a4 a5 a6 a7 a8 a9 a10 a11 a12 a13 a14 hS
  refine br_t ?_ (rl_627 hS hN2 hd (by omega) hp)
  rw [pk_sub hg, pk_sub hk1]
  exact congrArg nI (by omega)
/-- from the two denied counts on -/
theorem rl_478 {post : Int32 → St0 → Prop} {mc ms kc ks : Nat} {now : Int32} {a1 a2 a3 a4 a5 a6 a7 a8 a9 a10 a11 a12 a13 a14 : Nat → Int32} {t s b g0 g2 e h n r x y z : Nat} {x5 x6 x7 x8 x10 x13 v : Int32} {one two : Nat} (hS : rl_S t s b g0 g2 (1 - one) (1 - two) e h n r x y z (now, a1, a2, a3, a4, a5, a6, a7, a8, a9, a10, a11, a12, a13, a14)) (h1 : one ≤ 1) (h2 : two ≤ 1)
    (H : ∀ v, wL_lawOf_516 post mc ms x5 x6 x7 x8 x10 x13 v v kc ks now a1 a2 a3 a4 a5 a6 a7 a8 a9 a10 a11 a12 a13 a14) : wL_lawOf_478 post mc ms x5 x6 x7 x8 x10 x13 (nI one) (nI two) v v kc ks now a1 a2 a3 a4 a5 a6 a7 a8 a9 a10 a11 a12 a13 a14 := by
  have k6 : a6 0 = nI (1 - one) := hS.2.2.2.2.2.2.2.2.2.2.1
  have k6' : a6 2 = nI (1 - two) := hS.2.2.2.2.2.2.2.2.2.2.2.1
  have M : ∀ v, wL_lawOf_497 post mc ms x5 x6 x7 x8 x10 x13 (nI two) v v kc ks now a1 a2 a3 a4 a5 a6 a7 a8 a9 a10 a11 a12 a13 a14 := by
    intro v
    unfold wL_lawOf_497
    refine br_t rfl (rl_denied rl_c2 rl_v2 (by decide) (by decide) k6' (pk_eq two 0 (fun z => ?_) (fun z => ?_)))
    · rw [show nI (1 - two) = 1 by subst z; rfl]
      exact H 1
    · rw [show nI (1 - two) = 0 by rw [show two = 1 by omega]; rfl]
      exact H 0
  unfold wL_lawOf_478
  refine br_t rfl (rl_denied rl_c0 rl_v0 (by decide) (by decide) k6 (pk_eq one 0 (fun z => ?_) (fun z => ?_)))
  · rw [show nI (1 - one) = 1 by subst z; rfl]
    exact M 1
  · rw [show nI (1 - one) = 0 by rw [show one = 1 by omega]; rfl]
    exact M 0
theorem rl_447 {post : Int32 → St0 → Prop} {mc ms kc ks : Nat} {now : Int32} {a1 a2 a3 a4 a5 a6 a7 a8 a9 a10 a11 a12 a13 a14 : Nat → Int32} {x5 x6 x7 x8 x10 : Int32} {one two k : Nat} (h1 : one ≤ 1) (h2 : two ≤ 1) (h3 : one = 0 ∨ two = 0) (hk : k < 20)
    (H : wL_lawOf_478 post mc ms x5 x6 x7 x8 x10 (nI k) (nI one) (nI two) 0 0 kc ks now a1 a2 a3 a4 a5 a6 a7 a8 a9 a10 a11 a12 a13 a14) : wL_lawOf_447 post mc ms x5 x6 x7 x8 x10 (nI k) (nI one) (nI two) 0 kc ks now a1 a2 a3 a4 a5 a6 a7 a8 a9 a10 a11 a12 a13 a14 := by
  have M : wL_lawOf_465 post mc ms x5 x6 x7 x8 x10 (nI k) (nI one) (nI two) kc ks now a1 a2 a3 a4 a5 a6 a7 a8 a9 a10 a11 a12 a13 a14 := by
    unfold wL_lawOf_465 wL_lawOf_466
    exact pk_lt k 20 (fun _ => H) (fun z => absurd z (by omega))
  unfold wL_lawOf_447 wL_lawOf_448
  exact br_t rfl (pk_eq one 0 (fun _ => M) (fun z1 => pk_eq two 0 (fun _ => M) (fun z2 => absurd h3 (by omega))))
end
section
/-- the first askAll and what follows -/
theorem rl_423 {post : Int32 → St0 → Prop} {mc ms kc ks : Nat} {now : Int32} {a1 a2 a3 a4 a5 a6 a7 a8 a9 a10 a11 a12 a13 a14 : Nat → Int32} {s b a d g k c one two e h n : Nat}
    (hS : rl_S (50 + d) s b a a 0 0 e h n g 50 a 0 (now, a1, a2, a3, a4, a5, a6, a7, a8, a9, a10, a11, a12, a13, a14)) (hq : rl_Q (50 + d) s h n 50 0) (hN : rl_N (50 + d) s b e 50 0) (hd : d ≤ 11) (he : e ≤ 250) (he2 : e - (50 + d) ≤ b * s) (hk : h + n = 1) (hg : g ≤ b)
    (hk1 : k ≤ b - g) (hk2 : k ≤ (b * s - (e - (50 + d))) / s) (hk3 : k = b - g ∨ k = (b * s - (e - (50 + d))) / s)
    (hc : (c = k + 1 ∧ k < 20) ∨ (c = 20 ∧ 20 ≤ k)) (h1 : (one = 0 ∧ b - g < c) ∨ (one = 1 ∧ c ≤ b - g)) (h2 : (two = 0 ∧ (b * s - (e - (50 + d))) / s < c) ∨ (two = 1 ∧ c ≤ (b * s - (e - (50 + d))) / s)) (hp : post 1 ()) :
    wL_lawOf_423 post mc ms (nI s) (nI b) (nI a) (nI d) (nI g) (nI k) (nI c) (nI one) (nI two) kc ks now a1 a2 a3 a4 a5 a6 a7 a8 a9 a10 a11 a12 a13 a14 := by
  have hN' := hN
  obtain ⟨n1, n2, n3, n4, n5, n6, n7, n8, n9⟩ := hN'
  have hR : (b * s - (e - (50 + d))) / s ≤ b := rl_Rle n1
  unfold wL_lawOf_423
  refine rl_all (p := 5) (by decide) (by decide) (by decide) (by decide) hS hq hN hk hg he2 (by omega) (by omega) (fun c1 c2 => rl_ex ?_) (fun c1 c2 => rl_ex ?_) (fun c1 c2 => rl_ex ?_) (fun c1 c2 => rl_ex ?_)
  · intro now a1 a2 a3 a4 a5 a6 a7 a8 a9 a10 a11 a12 a13 a14 hS
    have q1 : one = 1 := by omega
    have q2 : two = 1 := by omega
    have q3 : c = 20 := by omega
    have q4 : 20 ≤ k := by omega
    subst q1 q2 q3
    have k5 : a5 0 = nI (a + 20) := hS.2.2.2.2.2.2.2.1
    have k5' : a5 2 = nI (a + 20) := hS.2.2.2.2.2.2.2.2.1
    refine br_f (by decide) (br_f (by decide) ?_)
    unfold wL_lawOf_448
    refine br_t rfl (br_f (by decide) (br_f (by decide) ?_))
    unfold wL_lawOf_466
    refine pk_lt k 20 (fun z => absurd z (by omega)) (fun _ => rl_478 (one := 1) (two := 1) hS (by omega) (by omega) (fun v => ?_))
    unfold wL_lawOf_516
    exact br_t rfl (pk_lt k 20 (fun z => absurd z (by omega)) (fun _ => rl_granted rl_c0 rl_v0 (by decide) (by decide) k5 (br_t (nI_add a 20).symm (rl_granted rl_c2 rl_v2 (by decide) (by decide) k5' (br_t (nI_add a 20).symm hp)))))
  · intro now a1 a2 a3 a4 a5 a6 a7 a8 a9 a10 a11 a12 a13 a14 hS
    have q1 : one = 0 := by omega
    have q2 : two = 1 := by omega
    subst q1 q2
    exact br_t rfl (rl_447 (by omega) (by omega) (by omega) (by omega) (rl_478 (one := 0) (two := 1) hS (by omega) (by omega) (fun v => rl_516 hS hq hN hd he he2 hk hg hk1 hk2 (by omega) hp)))
  · intro now a1 a2 a3 a4 a5 a6 a7 a8 a9 a10 a11 a12 a13 a14 hS
    have q1 : one = 1 := by omega
    have q2 : two = 0 := by omega
    subst q1 q2
    exact br_f (by decide) (br_t rfl (rl_447 (by omega) (by omega) (by omega) (by omega) (rl_478 (one := 1) (two := 0) hS (by omega) (by omega) (fun v => rl_516 hS hq hN hd he he2 hk hg hk1 hk2 (by omega) hp))))
  · intro now a1 a2 a3 a4 a5 a6 a7 a8 a9 a10 a11 a12 a13 a14 hS
    have q1 : one = 0 := by omega
    have q2 : two = 0 := by omega
    subst q1 q2
    exact br_t rfl (rl_447 (by omega) (by omega) (by omega) (by omega) (rl_478 (one := 0) (two := 0) hS (by omega) (by omega) (fun v => rl_516 hS hq hN hd he he2 hk hg hk1 hk2 (by omega) hp)))
theorem rl_392 {post : Int32 → St0 → Prop} {mc ms kc ks : Nat} {now : Int32} {a1 a2 a3 a4 a5 a6 a7 a8 a9 a10 a11 a12 a13 a14 : Nat → Int32} {s b a d g k c e h n : Nat}
    (hS : rl_S (50 + d) s b a a 0 0 e h n g 50 a 0 (now, a1, a2, a3, a4, a5, a6, a7, a8, a9, a10, a11, a12, a13, a14)) (hq : rl_Q (50 + d) s h n 50 0) (hN : rl_N (50 + d) s b e 50 0) (hd : d ≤ 11) (he : e ≤ 250) (he2 : e - (50 + d) ≤ b * s) (hk : h + n = 1) (hg : g ≤ b)
    (hk1 : k ≤ b - g) (hk2 : k ≤ (b * s - (e - (50 + d))) / s) (hk3 : k = b - g ∨ k = (b * s - (e - (50 + d))) / s)
    (hc : (c = k + 1 ∧ k < 20) ∨ (c = 20 ∧ 20 ≤ k)) (hp : post 1 ()) :
    wL_lawOf_392 post mc ms (nI s) (nI b) (nI a) (nI d) (nI g) (nI ((b * s - (e - (50 + d))) / s)) (nI k) (nI c) kc ks now a1 a2 a3 a4 a5 a6 a7 a8 a9 a10 a11 a12 a13 a14 := by
  have hN' := hN
  obtain ⟨n1, n2, n3, n4, n5, n6, n7, n8, n9⟩ := hN'
  have hR : (b * s - (e - (50 + d))) / s ≤ b := rl_Rle n1
  have M : ∀ one, ((one = 0 ∧ b - g < c) ∨ (one = 1 ∧ c ≤ b - g)) → wL_lawOf_409 post mc ms (nI s) (nI b) (nI a) (nI d) (nI g) (nI ((b * s - (e - (50 + d))) / s)) (nI k) (nI c) (nI one) kc ks now a1 a2 a3 a4 a5 a6 a7 a8 a9 a10 a11 a12 a13 a14 := by
    intro one h1
    unfold wL_lawOf_409
    exact pk_lt ((b * s - (e - (50 + d))) / s) c (fun z => rl_423 (two := 0) hS hq hN hd he he2 hk hg hk1 hk2 hk3 hc h1 (Or.inl ⟨rfl, z⟩) hp) (fun z => rl_423 (two := 1) hS hq hN hd he he2 hk hg hk1 hk2 hk3 hc h1 (Or.inr ⟨rfl, z⟩) hp)
  unfold wL_lawOf_392
  exact pk_lt (b - g) c (fun z => M 0 (Or.inl ⟨rfl, z⟩)) (fun z => M 1 (Or.inr ⟨rfl, z⟩)) (pk_sub hg)
theorem rl_347 {post : Int32 → St0 → Prop} {mc ms kc ks : Nat} {now : Int32} {a1 a2 a3 a4 a5 a6 a7 a8 a9 a10 a11 a12 a13 a14 : Nat → Int32} {s b a d g e h n : Nat} {z0 z1 : Int32}
    (hS : rl_S (50 + d) s b a a 0 0 e h n g 50 a 0 (now, a1, a2, a3, a4, a5, a6, a7, a8, a9, a10, a11, a12, a13, a14)) (hq : rl_Q (50 + d) s h n 50 0) (hN : rl_N (50 + d) s b e 50 0) (hd : d ≤ 11) (he : e ≤ 250) (he2 : e - (50 + d) ≤ b * s) (hk : h + n = 1) (hg : g ≤ b) (hz : z1 = z0) (hp : post 1 ()) :
    wL_lawOf_347 post mc ms (nI s) (nI b) (nI a) (nI d) (nI g) (nI ((b * s - (e - (50 + d))) / s)) z0 z1 kc ks now a1 a2 a3 a4 a5 a6 a7 a8 a9 a10 a11 a12 a13 a14 := by
  have hN' := hN
  obtain ⟨n1, n2, n3, n4, n5, n6, n7, n8, n9⟩ := hN'
  have hR : (b * s - (e - (50 + d))) / s ≤ b := rl_Rle n1
  have M : ∀ k, k ≤ b - g → k ≤ (b * s - (e - (50 + d))) / s → (k = b - g ∨ k = (b * s - (e - (50 + d))) / s) → wL_lawOf_372 post mc ms (nI s) (nI b) (nI a) (nI d) (nI g) (nI ((b * s - (e - (50 + d))) / s)) (nI k) kc ks now a1 a2 a3 a4 a5 a6 a7 a8 a9 a10 a11 a12 a13 a14 := by
    intro k hk1 hk2 hk3
    unfold wL_lawOf_372
    rw [nI_1]
    exact pk_le (k + 1) 20 (fun z => rl_392 hS hq hN hd he he2 hk hg hk1 hk2 hk3 (Or.inl ⟨rfl, by omega⟩) hp) (fun z => rl_392 (c := 20) hS hq hN hd he he2 hk hg hk1 hk2 hk3 (Or.inr ⟨rfl, by omega⟩) hp)
  unfold wL_lawOf_347
  rw [pk_sub hg]
  exact br_t hz (pk_le ((b * s - (e - (50 + d))) / s) (b - g) (fun z => M _ z (Nat.le_refl _) (Or.inr rfl)) (fun z => M _ (Nat.le_refl _) (by omega) (Or.inl rfl)))
theorem rl_272 {post : Int32 → St0 → Prop} {mc ms kc ks : Nat} {now : Int32} {a1 a2 a3 a4 a5 a6 a7 a8 a9 a10 a11 a12 a13 a14 : Nat → Int32} {s b a d g e : Nat} {l : Int32}
    (hS : rl_S (50 + d) s b a a 0 0 e 0 1 a 50 a 0 (now, a1, a2, a3, a4, a5, a6, a7, a8, a9, a10, a11, a12, a13, a14)) (hN : rl_N (50 + d) s b e 50 0) (hd : d ≤ 11) (he : e ≤ 250) (he2 : e - (50 + d) ≤ b * s) (ha : a ≤ b) (ha1 : 1 ≤ a)
    (hg : (d < s ∧ g = a) ∨ (s ≤ d ∧ g = 0)) (hl : l = nI (e - (50 + d))) (hp : post 1 ()) :
    wL_lawOf_272 post mc ms (nI s) (nI b) (nI a) (nI d) (nI g) l kc ks now a1 a2 a3 a4 a5 a6 a7 a8 a9 a10 a11 a12 a13 a14 := by
  have hN' := hN
  obtain ⟨n1, n2, n3, n4, n5, n6, n7, n8, n9⟩ := hN'
  have hbs := rl_bs hN
  have hR : (b * s - (e - (50 + d))) / s ≤ b := rl_Rle n1
  have hgb : g ≤ b := by omega
  unfold wL_lawOf_272
  refine ⟨nI_ne0 n1 (by omega), nm_r (e' := nI ((b * s - (e - (50 + d))) / s)) ?_ (rl_room0x (g := g) hS hN ha (by omega) ?_)⟩
  · rw [hl, pk_mul, pk_sub he2, pk_div (by omega) n1 (by omega)]
  intro h n hk hq hgl
  refine rl_ex ?_
  intro now a1 a2 a3 a4 a5 a6 a7 a8 a9 a10 a11 a12 a13 a14 hS
  refine br_t (pk_sub hgb).symm (rl_room2 hS hN he2 (rl_ex ?_))
  intro now a1 a2 a3 a4 a5 a6 a7 a8 a9 a10 a11 a12 a13 a14 hS
  refine br_t rfl (rl_wait2b hS hN he2 (rl_ex ?_))
  intro now a1 a2 a3 a4 a5 a6 a7 a8 a9 a10 a11 a12 a13 a14 hS
  refine br_t hl.symm (rl_wait0 (c := b) hS hq hN (by omega) hgb n3 (Nat.le_refl b) (fun z => by omega) (fun z => rl_ex ?_) (fun z => rl_ex ?_))
  · intro now a1 a2 a3 a4 a5 a6 a7 a8 a9 a10 a11 a12 a13 a14 hS
    have q : g = 0 := by omega
    subst q
    exact br_t rfl (rl_347 hS hq hN hd he he2 hk hgb rfl hp)
  · intro now a1 a2 a3 a4 a5 a6 a7 a8 a9 a10 a11 a12 a13 a14 hS
    refine br_f (nI_ne0 (by omega) (by omega)) (rl_347 hS hq hN hd he he2 hk hgb ?_ hp)
    rw [pk_sub (by omega)]
    exact congrArg nI (by omega)
theorem rl_248 {post : Int32 → St0 → Prop} {mc ms kc ks : Nat} {now : Int32} {a1 a2 a3 a4 a5 a6 a7 a8 a9 a10 a11 a12 a13 a14 : Nat → Int32} {s b a d g : Nat}
    (hS : rl_S (50 + d) s b a a 0 0 (50 + a * s) 0 1 a 50 a 0 (now, a1, a2, a3, a4, a5, a6, a7, a8, a9, a10, a11, a12, a13, a14)) (s1 : 1 ≤ s) (s2 : s ≤ 10) (b2 : b ≤ 20) (hd : d ≤ 11) (ha : a ≤ b) (ha1 : 1 ≤ a)
    (hg : (d < s ∧ g = a) ∨ (s ≤ d ∧ g = 0)) (hp : post 1 ()) :
    wL_lawOf_248 post mc ms (nI s) (nI b) (nI a) (nI d) (nI g) kc ks now a1 a2 a3 a4 a5 a6 a7 a8 a9 a10 a11 a12 a13 a14 := by
  have has : a * s ≤ b * s := Nat.mul_le_mul_right s ha
  have hbs : b * s ≤ 200 := Nat.mul_le_mul b2 s2
  have hN : rl_N (50 + d) s b (50 + a * s) 50 0 := by
    unfold rl_N
    omega
  unfold wL_lawOf_248
  rw [pk_mul]
  refine pk_le (a * s) d (fun z => rl_272 hS hN hd (by omega) (by omega) ha ha1 hg ?_ hp) (fun z => rl_272 hS hN hd (by omega) (by omega) ha ha1 hg ?_ hp)
  · rw [show 50 + a * s - (50 + d) = 0 by omega]
    rfl
  · rw [pk_sub (by omega)]
    exact congrArg nI (by omega)
/-- a script's int, masked, to a number below k -/
theorem rl_par (x : Int32) {k : Nat} (h0 : 0 < k) (hk : k < 2 ^ 31) : ∃ j, j < k ∧ (x &&& 2147483647) - (x &&& 2147483647) / nI k * nI k = nI j := by
  obtain ⟨j, hj, e⟩ := pk_andE x (m := 2147483647) 31 (by decide)
  exact ⟨j % k, Nat.mod_lt _ h0, by rw [e]; exact pk_rem hj h0 hk⟩
theorem rl_two {now : Int32} {a1 a2 a3 a4 a5 a6 a7 a8 a9 a10 a11 a12 a13 a14 : Nat → Int32} {s b : Nat} (h : rl_Z (now, a1, a2, a3, a4, a5, a6, a7, a8, a9, a10, a11, a12, a13, a14)) :
    rl_S 0 s b 0 0 0 0 0 0 0 0 0 0 0 (now, upd (upd a1 0 1) 2 2, upd (upd a2 0 (nI 1)) 2 (nI 1), upd (upd a3 0 (nI b)) 2 (nI b), upd (upd a4 0 (nI s)) 2 (nI s), upd (upd a5 0 0) 2 0, upd (upd a6 0 0) 2 0, upd (upd a7 0 (nI b)) 2 (nI b), upd (upd a8 0 now) 2 now, upd (upd a9 0 (-1000000)) 2 (-1000000), upd (upd a10 0 0) 2 0, upd (upd a11 0 0) 2 0, upd (upd a12 0 0) 2 0, a13, a14) := by
  obtain ⟨k0, k5, k6, k13, k13', k14⟩ := h
  exact ⟨k0, rfl, rfl, rfl, rfl, rfl, rfl, rfl, rfl, k5, rfl, rfl, k6, Or.inr ⟨rfl, rfl⟩, rfl, rfl, rfl, rfl, k13, k13', k14⟩
theorem rl_lawOf {post : Int32 → St0 → Prop} {mc ms : Nat} {p0 p1 p2 p3 : Int32} (hmc : 15 ≤ mc) (hms : 319 ≤ ms) (hp : post 1 ()) : wpL_lawOf post mc ms () p0 p1 p2 p3 := by
  obtain ⟨js, hs, es⟩ := rl_par p0 (k := 10) (by decide) (by decide)
  obtain ⟨jb, hb, eb⟩ := rl_par p1 (k := 20) (by decide) (by decide)
  obtain ⟨ja, ha, ea⟩ := rl_par p2 (k := 1 + jb) (by omega) (by omega)
  obtain ⟨d, hd, ed⟩ := rl_par p3 (k := 12) (by decide) (by decide)
  obtain ⟨s, hs'⟩ : ∃ s, s = 1 + js := ⟨_, rfl⟩
  obtain ⟨b, hb'⟩ : ∃ b, b = 1 + jb := ⟨_, rfl⟩
  obtain ⟨a, ha'⟩ : ∃ a, a = 1 + ja := ⟨_, rfl⟩
  have e1 : ∀ j, (1 : Int32) + nI j = nI (1 + j) := fun j => nI_add 1 j
  have Es : 1 + ((p0 &&& 2147483647) - (p0 &&& 2147483647) / 10 * 10) = nI s := by
    rw [hs', ← e1 js, ← es]
    rfl
  have Eb : 1 + ((p1 &&& 2147483647) - (p1 &&& 2147483647) / 20 * 20) = nI b := by
    rw [hb', ← e1 jb, ← eb]
    rfl
  have Ea : 1 + ((p2 &&& 2147483647) - (p2 &&& 2147483647) / nI b * nI b) = nI a := by
    rw [ha', hb', ea, e1]
  have Ed : (p3 &&& 2147483647) - (p3 &&& 2147483647) / 12 * 12 = nI d := ed
  have s1 : 1 ≤ s := by omega
  have s2 : s ≤ 10 := by omega
  have b1 : 1 ≤ b := by omega
  have b2 : b ≤ 20 := by omega
  have a1 : 1 ≤ a := by omega
  have ab : a ≤ b := by omega
  have d1 : d ≤ 11 := by omega
  clear hs hb ha es eb ea ed hs' hb' ha' hd
  have has : a * s ≤ b * s := Nat.mul_le_mul_right s ab
  have hbs : b * s ≤ 200 := Nat.mul_le_mul b2 s2
  have sas : s ≤ a * s := Nat.le_mul_of_pos_left s a1
  have hR : (b * s - (50 + a * s - 50)) / s = b - a := by
    rw [show 50 + a * s - 50 = a * s by omega, ← Nat.sub_mul, Nat.mul_div_cancel _ s1]
  have hW : 50 + a * s - 50 - (b - (b - a + 1)) * s = s := by
    rw [show b - (b - a + 1) = a - 1 by omega, Nat.sub_mul]
    omega
  have hN0 : rl_N 50 s b 0 0 0 := by
    unfold rl_N
    omega
  have hN1 : rl_N 50 s b 0 50 0 := by
    unfold rl_N
    omega
  have hN : rl_N 50 s b (50 + a * s) 50 0 := by
    unfold rl_N
    omega
  have hq : rl_Q 50 s 0 1 50 0 := Or.inr (Or.inl ⟨rfl, by omega⟩)
  have hl : 0 = 0 ∧ 1 = 1 ∧ 50 < 50 + s := ⟨rfl, rfl, by omega⟩
  have hs0 : nI (50 + s - 50) = nI s := congrArg nI (by omega)
  unfold wpL_lawOf
  refine ⟨by omega, by omega, 14, 304, by omega, by omega, rl_init (by omega) (by omega) (rl_ex ?_)⟩
  intro now a1 a2 a3 a4 a5 a6 a7 a8 a9 a10 a11 a12 a13 a14 hZ
  refine ⟨by decide, nm_r Es ⟨by decide, nm_r Eb ⟨nI_ne0 b1 (by omega), nm_r Ea ⟨by decide, nm_r Ed ?_⟩⟩⟩⟩
  refine rl_set rl_c0 rl_v0 (by decide) (by decide) (by decide) (by decide) s1 s2 b1 b2 ?_
  refine rl_set rl_c2 rl_v2 (by decide) (by decide) (by decide) (by decide) s1 s2 b1 b2 ?_
  refine rl_pass (c := 50) (rl_two (s := s) (b := b) hZ) (by omega) (by omega) (rl_ex ?_)
  intro now a1 a2 a3 a4 a5 a6 a7 a8 a9 a10 a11 a12 a13 a14 hS
  refine br_t rfl (rl_ask0 (c := a) hS hN0 (by omega) ab (rl_ex ?_))
  intro now a1 a2 a3 a4 a5 a6 a7 a8 a9 a10 a11 a12 a13 a14 hS
  refine br_t rfl (rl_ask2 (c := a) hS hN1 (by omega) (by omega) ab (rl_ex ?_))
  intro now a1 a2 a3 a4 a5 a6 a7 a8 a9 a10 a11 a12 a13 a14 hS
  rw [Nat.zero_add a] at hS
  have hS : rl_S 50 s b a a 0 0 (50 + a * s) 0 1 a 50 a 0 (now, a1, a2, a3, a4, a5, a6, a7, a8, a9, a10, a11, a12, a13, a14) := hS
  refine br_t rfl (rl_room0 hS hq hN (by omega) ab (rl_ex ?_))
  intro now a1 a2 a3 a4 a5 a6 a7 a8 a9 a10 a11 a12 a13 a14 hS
  refine br_t (pk_sub ab).symm (rl_room2 hS hN (by omega) ?_)
  rw [hR]
  refine rl_ex ?_
  intro now a1 a2 a3 a4 a5 a6 a7 a8 a9 a10 a11 a12 a13 a14 hS
  refine br_t (pk_sub ab).symm (nm_r (e' := nI (b - a + 1)) (by rw [pk_sub ab, nI_1]) ?_)
  refine rl_wait0 (c := b - a + 1) hS hq hN (by omega) ab (by omega) (by omega) (fun _ => hl) (fun z => absurd z (by omega)) (fun _ => rl_ex ?_)
  intro now a1 a2 a3 a4 a5 a6 a7 a8 a9 a10 a11 a12 a13 a14 hS
  refine br_t hs0 (rl_wait2 (c := b - a + 1) hS hN (by omega) (by omega) (by omega) (fun z => absurd z (by rw [hR]; omega)) (fun _ => rl_ex ?_))
  rw [hW]
  intro now a1 a2 a3 a4 a5 a6 a7 a8 a9 a10 a11 a12 a13 a14 hS
  refine br_t rfl (rl_wait2b hS hN (by omega) (rl_ex ?_))
  rw [show 50 + a * s - 50 = a * s by omega]
  intro now a1 a2 a3 a4 a5 a6 a7 a8 a9 a10 a11 a12 a13 a14 hS
  refine br_t (pk_mul a s).symm (rl_wait0 (c := b) hS hq hN (by omega) ab b1 (Nat.le_refl b) (fun _ => hl) (fun z => absurd z (by omega)) (fun _ => rl_ex ?_))
  intro now a1 a2 a3 a4 a5 a6 a7 a8 a9 a10 a11 a12 a13 a14 hS
  refine br_t hs0 (rl_pass (c := d) hS (by omega) (by omega) (rl_ex ?_))
  intro now a1 a2 a3 a4 a5 a6 a7 a8 a9 a10 a11 a12 a13 a14 hS
  exact pk_le s d (fun z => rl_248 (g := 0) hS s1 s2 b2 d1 ab (by omega) (Or.inr ⟨z, rfl⟩) hp) (fun z => rl_248 (g := a) hS s1 s2 b2 d1 ab (by omega) (Or.inl ⟨z, rfl⟩) hp)
end
section
theorem rl_cell {post : Int32 → Prop} {L : Nat} {xs : Nat → Int32} {i : Nat} (hL : L ≤ 4) (hi : i < 4) (hp : ∀ v, post v) : wpL_cellAt post L xs () (nI i) := by
  unfold wpL_cellAt
  exact pk_le L i (fun _ => hp _) (fun z => ⟨pk_in i L z, hp _⟩)
theorem i_vc (xs : Nat → Int32) (L : Nat) (hL : L ≤ 4) : wpL_law (fun r => r = 1) L xs := by
  unfold wpL_law
  exact rl_cell (i := 0) hL (by decide) (fun _ => rl_cell (i := 1) hL (by decide) (fun _ => rl_cell (i := 2) hL (by decide) (fun _ => rl_cell (i := 3) hL (by decide) (fun _ => ⟨15, 319, by decide, by decide, rl_lawOf (by decide) (by decide) rfl⟩))))
end
