section
/-- a weight from -20 to 20, by a natural from 0 to 40 -/
def mc_w (k : Nat) : Int32 := nI k - 20
/-- its size -/
def mc_s (k : Nat) : Nat := (k - 20) + (20 - k)
/-- its long -/
def mc_W (k : Nat) : Int64 := (mc_w k).toInt64
theorem mc_wOf {x : Int32} (h1 : ¬ x < (-20)) (h2 : ¬ 20 < x) : ∃ k : Nat, k < 41 ∧ x = mc_w k := by
  have g1 : ¬ x.toInt < -20 := fun z => h1 (Int32.lt_iff_toInt_lt.mpr z)
  have g2 : ¬ 20 < x.toInt := fun z => h2 (Int32.lt_iff_toInt_lt.mpr z)
  refine ⟨(x.toInt + 20).toNat, by omega, ?_⟩
  apply Int32.toInt_inj.mp
  unfold mc_w
  rw [Int32.toInt_sub, nI_toInt (by omega), show (20 : Int32).toInt = 20 from rfl, Int.bmod_eq_of_le (by omega) (by omega)]
  omega
theorem mc_w8 : ∀ k, k < 41 → (mc_w k).toInt8.toInt32 = mc_w k := by decide +kernel
theorem mc_t8 : ∀ t, t < 6 → (nI t).toInt8.toInt32 = nI t := by decide +kernel
theorem mc_WI : ∀ k, k < 41 → (mc_W k).toInt = (k : Int) - 20 := by decide +kernel
theorem mc_wI : ∀ k, k < 41 → (mc_w k).toInt = (k : Int) - 20 := by decide +kernel
/-- products without overflow -/
theorem mc_mulT {i : Nat} {d : Int64} (hi : i ≤ 8) (h1 : -100000 ≤ d.toInt) (h2 : d.toInt ≤ 100000) : (lN i * d).toInt = (i : Int) * d.toInt := by
  rw [Int64.toInt_mul, lN_toInt (by omega)]
  have h : i = 0 ∨ i = 1 ∨ i = 2 ∨ i = 3 ∨ i = 4 ∨ i = 5 ∨ i = 6 ∨ i = 7 ∨ i = 8 := by omega
  apply Int.bmod_eq_of_le
  · rcases h with h | h | h | h | h | h | h | h | h <;> subst h <;> omega
  · rcases h with h | h | h | h | h | h | h | h | h <;> subst h <;> omega
theorem mc_mulS (i : Nat) (d : Int64) : lN i * d + d = lN (i + 1) * d := by
  rw [← lN_1]
  grind
theorem mc_lw {i k : Nat} (hi : i ≤ 6) (hk : k < 41) : lN i * mc_W k < 1000000000 := by
  apply Int64.lt_iff_toInt_lt.mpr
  have e := mc_WI k hk
  rw [mc_mulT (by omega) (by omega) (by omega), e, show (1000000000 : Int64).toInt = 1000000000 from rfl]
  have h : i = 0 ∨ i = 1 ∨ i = 2 ∨ i = 3 ∨ i = 4 ∨ i = 5 ∨ i = 6 := by omega
  rcases h with h | h | h | h | h | h | h <;> subst h <;> omega
theorem mc_lt {i : Nat} {d : Int64} (hi : i ≤ 7) (h1 : -100000 ≤ d.toInt) (h2 : d.toInt < 0) : lN i * d + d < lN i * d := by
  rw [mc_mulS]
  apply Int64.lt_iff_toInt_lt.mpr
  rw [mc_mulT (by omega) (by omega) (by omega), mc_mulT (by omega) (by omega) (by omega)]
  have h : i = 0 ∨ i = 1 ∨ i = 2 ∨ i = 3 ∨ i = 4 ∨ i = 5 ∨ i = 6 ∨ i = 7 := by omega
  rcases h with h | h | h | h | h | h | h | h <;> subst h <;> omega
theorem mc_far {x : Int64} (h : x < 1000000000) : ¬ 1000000000 ≤ x := Int64.not_le.mpr h
theorem mc_irr (x : Int64) : ¬ x < x := Int64.lt_irrefl
theorem mc_fr : ¬ (1000000000 : Int64) < 1000000000 := by decide
/-- the places of a row of six -/
theorem mc_ix (l v : Nat) : 6 * nI l + nI v = nI (6 * l + v) := by
  rw [show (6 : Int32) = nI 6 from rfl, pk_mul, nI_add]
theorem mc_ixm {l u : Nat} (h : 1 ≤ l) : 6 * nI l - 6 + nI u = nI (6 * l - 6 + u) := by
  rw [show (6 : Int32) = nI 6 from rfl, pk_mul, pk_sub (by omega), nI_add]
theorem mc_dv {K u v : Nat} (hu : u < 6) (hv : v < 6) (h : K = 6 * u + v) : nI K / 6 = nI u := by
  rw [show (6 : Int32) = nI 6 from rfl, pk_div (by omega) (by omega) (by omega)]
  exact congrArg nI (by omega)
theorem mc_md {K u v : Nat} (hu : u < 6) (hv : v < 6) (h : K = 6 * u + v) : nI K - nI K / 6 * 6 = nI v := by
  rw [show (6 : Int32) = nI 6 from rfl, pk_rem (by omega) (by omega) (by omega)]
  exact congrArg nI (by omega)
/-- lowest after findMean -/
theorem mc_mp : ∀ n, n < 7 → ∀ k, k < 41 → 0 ≤ lN n * mc_W k → lN n * mc_W k = lN (n * mc_s k) := by decide +kernel
theorem mc_mn : ∀ n, n < 7 → ∀ k, k < 41 → ¬ 0 ≤ lN n * mc_W k → -(lN n * mc_W k) = lN (n * mc_s k) := by decide +kernel
theorem mc_mt : ∀ n, n < 7 → 1 ≤ n → ∀ k, k < 41 → lN n * mc_W k / lN (Nat.gcd (n * mc_s k) n) = mc_W k := by decide +kernel
theorem mc_mb : ∀ n, n < 7 → 1 ≤ n → ∀ k, k < 41 → lN n / lN (Nat.gcd (n * mc_s k) n) = 1 := by decide +kernel
/-- lowest after takeCircle -/
theorem mc_rp : ∀ k, k < 41 → 0 ≤ mc_W k → mc_W k = lN (mc_s k) := by decide +kernel
theorem mc_rn : ∀ k, k < 41 → ¬ 0 ≤ mc_W k → -(mc_W k) = lN (mc_s k) := by decide +kernel
def mc_g (k t : Nat) : Int64 := lN (Nat.gcd (mc_s k) t)
theorem mc_r0 : ∀ t, t < 6 → 1 ≤ t → ∀ k, k < 41 → mc_W k * (lN t / mc_g k t) - (mc_W k / mc_g k t) * (nI t).toInt64 = 0 := by decide +kernel
theorem mc_r21 : ∀ t, t < 6 → 1 ≤ t → ∀ k, k < 41 → -100000 ≤ (mc_W k * 1 - 21 * (nI t).toInt64).toInt ∧ (mc_W k * 1 - 21 * (nI t).toInt64).toInt < 0 := by decide +kernel
/-- the law's own divisor -/
theorem mc_c1 : ∀ t, t < 6 → 1 ≤ t → ∀ k, k < 41 → ¬ nI t ≤ 1 → mc_w k - mc_w k / nI t * nI t = 0 → (lN t / mc_g k t).toInt32 = nI t / nI t := by decide +kernel
theorem mc_c2 : ∀ k, k < 41 → ¬ mc_w k - mc_w k / 4 * 4 = 0 → mc_w k - mc_w k / 2 * 2 = 0 → (lN 4 / mc_g k 4).toInt32 = 4 / 2 := by decide +kernel
theorem mc_c3 : ∀ k, k < 41 → ¬ mc_w k - mc_w k / 2 * 2 = 0 → (lN 4 / mc_g k 4).toInt32 = 4 / 1 := by decide +kernel
theorem mc_c4 : ∀ t, t < 6 → 1 ≤ t → ∀ k, k < 41 → (¬ nI t = 4 ∧ ¬ mc_w k - mc_w k / nI t * nI t = 0) → (lN t / mc_g k t).toInt32 = nI t / 1 := by decide +kernel
theorem mc_c5 : ∀ t, t < 6 → 1 ≤ t → ∀ k, k < 41 → (¬ nI t = 4 ∧ nI t ≤ 1) → (lN t / mc_g k t).toInt32 = nI t / 1 := by decide +kernel
/-- bits -/
theorem mc_b0 : ∀ m, m < 6 → ((0 : Int32) >>> (nI m &&& 31)) &&& 1 = 0 := by decide +kernel
theorem mc_b1 : ∀ u, u < 6 → ∀ m, m < 6 → m ≠ u → ((1 : Int32) <<< (nI u &&& 31)) >>> (nI m &&& 31) &&& 1 = 0 := by decide +kernel
theorem mc_b2 : ∀ u, u < 6 → ¬ ((1 : Int32) <<< (nI u &&& 31)) >>> (nI u &&& 31) &&& 1 = 0 := by decide +kernel
theorem mc_bo (x : Int32) : x ||| x = x := by
  apply Int32.toBitVec_inj.mp
  simp
theorem mc_b0o (x : Int32) : 0 ||| x = x := by
  apply Int32.toBitVec_inj.mp
  simp
/-- p * t, in both widths -/
theorem mc_pt {p : Int32} {t : Nat} (h1 : ¬ p < (-100)) (h2 : p ≤ 100) (ht : t < 6) : (p * nI t).toInt = p.toInt * t ∧ (p.toInt64 * (nI t).toInt64).toInt = p.toInt * t ∧ -500 ≤ p.toInt * t ∧ p.toInt * t ≤ 500 := by
  have g1 : ¬ p.toInt < -100 := fun z => h1 (Int32.lt_iff_toInt_lt.mpr z)
  have g2 : p.toInt ≤ 100 := Int32.le_iff_toInt_le.mp h2
  have b : -500 ≤ p.toInt * t ∧ p.toInt * t ≤ 500 := by
    have h : t = 0 ∨ t = 1 ∨ t = 2 ∨ t = 3 ∨ t = 4 ∨ t = 5 := by omega
    rcases h with h | h | h | h | h | h <;> subst h <;> omega
  refine ⟨?_, ?_, b⟩
  · rw [Int32.toInt_mul, nI_toInt (by omega), Int.bmod_eq_of_le (by omega) (by omega)]
  · rw [Int64.toInt_mul, Int32.toInt_toInt64, Int32.toInt_toInt64, nI_toInt (by omega), Int.bmod_eq_of_le (by omega) (by omega)]
theorem mc_dp {p : Int32} {t k : Nat} (h1 : ¬ p < (-100)) (h2 : p ≤ 100) (ht : t < 6) (hk : k < 41) : (mc_W k * 1 - p.toInt64 * (nI t).toInt64).toInt = (k : Int) - 20 - p.toInt * t ∧ (mc_w k < p * nI t ↔ (k : Int) - 20 < p.toInt * t) ∧ -500 ≤ p.toInt * t ∧ p.toInt * t ≤ 500 := by
  obtain ⟨e1, e2, b1, b2⟩ := mc_pt h1 h2 ht
  refine ⟨?_, ?_, b1, b2⟩
  · rw [Int64.mul_one, Int64.toInt_sub, e2, mc_WI k hk, Int.bmod_eq_of_le (by omega) (by omega)]
  · rw [Int32.lt_iff_toInt_lt, e1, mc_wI k hk]
end
section
section
variable {n K u v : Nat} {pc : Int32} {a1 a2 a3 a6 a7 : Nat → Int32} {a4 a5 : Nat → Int64} {top bot d : Int64}
/-! lowest: the greatest common divisor -/
theorem mc_l27 {post : St2 → Prop} (G x y : Nat) (hy : 0 < y) (hx2 : x < 2 ^ 31) (hy2 : y < 2 ^ 31) (hG : Nat.gcd x y = G)
    (hp : post (pc, top / lN G, bot / lN G, a1, a2, a3, a4, a5, a6, a7)) :
    ∃ fu, wX_lowest_27 post pc top bot a1 a2 a3 a4 a5 a6 a7 fu (lN x) (lN y) := by
  refine lp2 (fun f (p q : Int64) => wX_lowest_27 post pc top bot a1 a2 a3 a4 a5 a6 a7 f p q)
    (fun p q => ∃ x y : Nat, p = lN x ∧ q = lN y ∧ 0 < y ∧ x < 2 ^ 31 ∧ y < 2 ^ 31 ∧ Nat.gcd x y = G) (fun p _ => p.toInt.toNat) ?_ (lN x) (lN y) ⟨x, y, rfl, rfl, hy, hx2, hy2, hG⟩
  rintro f p q ⟨x, y, rfl, rfl, hy, hx2, hy2, hG⟩ hw
  have ey : ¬ lN y = 0 := fun z => absurd ((lN_eq (b := 0) hy2 (by decide)).mp z) (by omega)
  by_cases h0 : x = 0
  · subst h0
    rw [Nat.gcd_zero_left] at hG
    subst hG
    exact br_t rfl ⟨ey, nm_e ⟨ey, nm_e hp⟩⟩
  · have ex : ¬ lN x = 0 := fun z => absurd ((lN_eq (b := 0) hx2 (by decide)).mp z) h0
    have hm : y % x < x := Nat.mod_lt _ (by omega)
    refine br_f ex ⟨ex, nm_r (pk_lRem (by omega) (by omega) (by omega)) (hw _ _ ⟨y % x, x, rfl, rfl, by omega, by omega, hx2, ?_⟩ ?_)⟩
    · rw [← hG, Nat.gcd_rec x y]
    · rw [lN_toInt (by omega), lN_toInt hx2]
      omega
theorem mc_low {post : St2 → Prop} (x y : Nat) (hy : 0 < y) (hx2 : x < 2 ^ 31) (hy2 : y < 2 ^ 31) (hp' : 0 ≤ top → top = lN x) (hn' : ¬ 0 ≤ top → -top = lN x) (hb : bot = lN y)
    (hp : post (pc, top / lN (Nat.gcd x y), bot / lN (Nat.gcd x y), a1, a2, a3, a4, a5, a6, a7)) :
    wpX_lowest post (pc, top, bot, a1, a2, a3, a4, a5, a6, a7) := by
  subst hb
  have key := mc_l27 (a1 := a1) (a2 := a2) (a3 := a3) (a4 := a4) (a5 := a5) (a6 := a6) (a7 := a7) (Nat.gcd x y) x y hy hx2 hy2 rfl hp
  refine br_c (fun z => ?_) (fun z => nm_r (hn' z) key)
  rw [← hp' z] at key
  exact key
/-! reducedWeight -/
/-- what relax takes for the arc at K -/
def mc_rd (a2 a3 : Nat → Int32) (top bot : Int64) (x1 : Int32) (K : Nat) : Int64 := if x1 = 0 then (a2 K).toInt64 * bot - top * ((1 : Int32).toInt64) else (a2 K).toInt64 * bot - top * (a3 K).toInt64
theorem mc_rw {post : Int64 → Prop} {x1 : Int32} (hK : K < 36) (hp : post (mc_rd a2 a3 top bot x1 K)) :
    wpX_reducedWeight post (pc, top, bot, a1, a2, a3, a4, a5, a6, a7) (nI K) x1 := by
  unfold wpX_reducedWeight
  dsimp only
  rw [nI_clamp (show K < 2 ^ 31 by omega)]
  refine ⟨pk_in K 36 hK, br_c (fun z => ?_) (fun z => ⟨pk_in K 36 hK, ?_⟩)⟩
  · rw [mc_rd, if_pos z] at hp
    exact hp
  · rw [mc_rd, if_neg z] at hp
    exact hp
/-! relax -/
theorem mc_r45 {post : Int32 → St2 → Prop} {J : Int32 → Int32 → (Nat → Int32) → (Nat → Int32) → (Nat → Int32) → (Nat → Int64) → (Nat → Int64) → (Nat → Int32) → (Nat → Int32) → Prop} {x1 : Int32} {i : Nat}
    (h0 : ∀ j, j < 36 → j ≠ K → a1 j = 0) (h1 : K < 36 → ¬ a1 K = 0) (hu : u < 6) (hv : v < 6) (hK : K < 36 → K = 6 * u + v) (hd : K < 36 → d = mc_rd a2 a3 top bot x1 K)
    (HI : K < 36 → a5 u + d < a5 v → J (nI v) (nI (i + 1)) a1 a2 a3 a4 (vp_updL a5 v (a5 u + d)) (upd a6 v (nI u)) a7)
    (HN : (K < 36 → ¬ a5 u + d < a5 v) → J (-1) (nI (i + 1)) a1 a2 a3 a4 a5 a6 a7) :
    ∃ fu, wX_relax_45 post J x1 (nI i) pc top bot fu (-1) 0 a1 a2 a3 a4 a5 a6 a7 := by
  by_cases hc : K < 36 ∧ a5 u + d < a5 v
  · obtain ⟨hk, hi⟩ := hc
    have e1 : nI K / 6 = nI u := mc_dv hu hv (hK hk)
    have e2 : nI K - nI K / 6 * 6 = nI v := mc_md hu hv (hK hk)
    refine pk_loop (σ := Int32 × (Nat → Int64) × (Nat → Int32)) (fun f j s => wX_relax_45 post J x1 (nI i) pc top bot f s.1 (nI j) a1 a2 a3 a4 s.2.1 s.2.2 a7)
      (fun j s => (j ≤ K → s = (-1, a5, a6)) ∧ (K < j → s = (nI v, vp_updL a5 v (a5 u + d), upd a6 v (nI u)))) 36 0 (-1, a5, a6) (by omega) ⟨fun _ => rfl, fun z => absurd z (by omega)⟩ ?_ ?_
    · intro f s hs
      rw [hs.2 hk]
      exact pk_le 36 36 (fun _ => nm_r (nI_1 i) (HI hk hi)) (fun z => absurd z (by omega))
    · intro f j s hj hs hw
      refine pk_le 36 j (fun z => absurd z (by omega)) (fun _ => ⟨pk_in j 36 hj, ?_⟩)
      rw [nI_clamp (show j < 2 ^ 31 by omega)]
      by_cases hjK : j = K
      · subst hjK
        have t := hw _ ⟨fun z => absurd z (by omega), fun _ => rfl⟩
        rw [hs.1 (Nat.le_refl _)]
        dsimp only
        refine br_f (h1 hk) ⟨by decide, ?_⟩
        rw [e2, e1, nI_clamp (show u < 2 ^ 31 by omega)]
        refine nm_e ⟨by decide, pk_in u 6 hu, mc_rw hk ?_⟩
        rw [← hd hk, nI_clamp (show v < 2 ^ 31 by omega), mc_t8 u hu]
        exact nm_e ⟨pk_in v 6 hv, br_t hi ⟨pk_in v 6 hv, nm_e ⟨by decide, pk_in v 6 hv, nm_e (nm_r (nI_1 j) t)⟩⟩⟩
      · refine br_t (h0 j hj hjK) (nm_r (nI_1 j) (hw _ ⟨fun z => hs.1 (by omega), fun z => hs.2 (by omega)⟩))
  · have hN : K < 36 → ¬ a5 u + d < a5 v := fun a b => hc ⟨a, b⟩
    refine pk_loop (σ := Unit) (fun f j _ => wX_relax_45 post J x1 (nI i) pc top bot f (-1) (nI j) a1 a2 a3 a4 a5 a6 a7)
      (fun _ _ => True) 36 0 () (by omega) trivial ?_ ?_
    · intro f s _
      exact pk_le 36 36 (fun _ => nm_r (nI_1 i) (HN hN)) (fun z => absurd z (by omega))
    · intro f j s hj _ hw
      refine pk_le 36 j (fun z => absurd z (by omega)) (fun _ => ⟨pk_in j 36 hj, ?_⟩)
      rw [nI_clamp (show j < 2 ^ 31 by omega)]
      by_cases hjK : j = K
      · subst hjK
        have e1 : nI j / 6 = nI u := mc_dv hu hv (hK hj)
        have e2 : nI j - nI j / 6 * 6 = nI v := mc_md hu hv (hK hj)
        refine br_f (h1 hj) ⟨by decide, ?_⟩
        rw [e2, e1, nI_clamp (show u < 2 ^ 31 by omega)]
        refine nm_e ⟨by decide, pk_in u 6 hu, mc_rw hj ?_⟩
        rw [← hd hj, nI_clamp (show v < 2 ^ 31 by omega)]
        exact nm_e ⟨pk_in v 6 hv, br_f (hN hj) (nm_r (nI_1 j) (hw () trivial))⟩
      · exact br_t (h0 j hj hjK) (nm_r (nI_1 j) (hw () trivial))
theorem mc_relax {post : Int32 → St2 → Prop} {x1 : Int32} (R : Nat → Int32 → (Nat → Int64) → (Nat → Int32) → Prop)
    (h0 : ∀ j, j < 36 → j ≠ K → a1 j = 0) (h1 : K < 36 → ¬ a1 K = 0) (hu : u < 6) (hv : v < 6) (hK : K < 36 → K = 6 * u + v) (hd : K < 36 → d = mc_rd a2 a3 top bot x1 K) (hn : n ≤ 6)
    (R0 : ∀ b5 b6, (∀ j, j < 6 → b5 j = 0 ∧ b6 j = -1) → R 0 (-1) b5 b6)
    (RI : ∀ i x b5 b6, i ≤ n → R i x b5 b6 → K < 36 → b5 u + d < b5 v → R (i + 1) (nI v) (vp_updL b5 v (b5 u + d)) (upd b6 v (nI u)))
    (RN : ∀ i x b5 b6, i ≤ n → R i x b5 b6 → (K < 36 → ¬ b5 u + d < b5 v) → R (i + 1) (-1) b5 b6)
    (RX : ∀ x b5 b6, R (n + 1) x b5 b6 → post x (nI n, top, bot, a1, a2, a3, a4, b5, b6, a7)) :
    wpX_relax post (nI n, top, bot, a1, a2, a3, a4, a5, a6, a7) x1 := by
  have h32 : ∀ b5 b6, (∀ j, j < 6 → b5 j = 0 ∧ b6 j = -1) → ∃ fu, wX_relax_32 post x1 (nI n) top bot fu (-1) 0 a1 a2 a3 a4 b5 b6 a7 := by
    intro b5 b6 hb
    refine pk_loop (σ := Int32 × (Nat → Int64) × (Nat → Int32)) (fun f i s => wX_relax_32 post x1 (nI n) top bot f s.1 (nI i) a1 a2 a3 a4 s.2.1 s.2.2 a7)
      (fun i s => R i s.1 s.2.1 s.2.2) (n + 1) 0 (-1, b5, b6) (by omega) (R0 b5 b6 hb) ?_ ?_
    · intro f s hs
      exact pk_lt n (n + 1) (fun _ => RX _ _ _ hs) (fun z => absurd z (by omega))
    · intro f i s hi hs hw
      refine pk_lt n i (fun z => absurd z (by omega)) (fun _ => ?_)
      exact mc_r45 h0 h1 hu hv hK hd (fun a b => hw (_, _, _) (RI i _ _ _ (by omega) hs a b)) (fun a => hw (_, _, _) (RN i _ _ _ (by omega) hs a))
  unfold wpX_relax
  dsimp only
  refine pk_loop (σ := (Nat → Int64) × (Nat → Int32)) (fun f i s => wX_relax_2 post x1 (nI n) top bot f (nI i) a1 a2 a3 a4 s.1 s.2 a7)
    (fun i s => ∀ j, j < i → s.1 j = 0 ∧ s.2 j = -1) 6 0 (a5, a6) (by omega) (fun j hj => absurd hj (by omega)) ?_ ?_
  · intro f s hs
    exact pk_le 6 6 (fun _ => h32 _ _ hs) (fun z => absurd z (by omega))
  · intro f i s hi hs hw
    refine pk_le 6 i (fun z => absurd z (by omega)) (fun _ => ⟨pk_in i 6 hi, ?_⟩)
    rw [nI_clamp (show i < 2 ^ 31 by omega)]
    refine nm_e ⟨pk_in i 6 hi, nm_e (nm_r (nI_1 i) (hw (vp_updL s.1 i 0, upd s.2 i (-1)) (fun j hj => ?_)))⟩
    show vp_updL s.1 i 0 j = 0 ∧ upd s.2 i (-1) j = -1
    by_cases e : j = i
    · rw [e, pk_uLs, pk_us]
      exact ⟨rfl, rfl⟩
    · rw [pk_uLn e, pk_un e]
      exact hs j (by omega)
/-- no arc, or an arc between two points: nothing goes on falling -/
theorem mc_rxN {post : Int32 → St2 → Prop} {x1 : Int32}
    (h0 : ∀ j, j < 36 → j ≠ K → a1 j = 0) (h1 : K < 36 → ¬ a1 K = 0) (hu : u < 6) (hv : v < 6) (hK : K < 36 → K = 6 * u + v) (hn1 : 1 ≤ n) (hn : n ≤ 6) (huv : K < 36 → u ≠ v)
    (hp : ∀ b5 b6, post (-1) (nI n, top, bot, a1, a2, a3, a4, b5, b6, a7)) :
    wpX_relax post (nI n, top, bot, a1, a2, a3, a4, a5, a6, a7) x1 := by
  refine mc_relax (K := K) (u := u) (v := v) (d := mc_rd a2 a3 top bot x1 K)
    (fun i x b5 _ => b5 u = 0 ∧ (1 ≤ i → K < 36 → ¬ mc_rd a2 a3 top bot x1 K < b5 v) ∧ (2 ≤ i → x = -1))
    h0 h1 hu hv hK (fun _ => rfl) hn ?_ ?_ ?_ ?_
  · intro b5 b6 hb
    exact ⟨(hb u hu).1, fun z => absurd z (by omega), fun z => absurd z (by omega)⟩
  · intro i x b5 b6 hi hR hk hb
    rw [hR.1, Int64.zero_add] at hb
    have hi0 : i = 0 := by
      rcases Nat.eq_zero_or_pos i with z | z
      · exact z
      · exact absurd hb (hR.2.1 z hk)
    subst hi0
    refine ⟨?_, fun _ _ => ?_, fun z => absurd z (by omega)⟩
    · rw [pk_uLn (huv hk)]
      exact hR.1
    · rw [pk_uLs, hR.1, Int64.zero_add]
      exact mc_irr _
  · intro i x b5 b6 hi hR hb
    refine ⟨hR.1, fun _ hk => ?_, fun _ => rfl⟩
    have t := hb hk
    rw [hR.1, Int64.zero_add] at t
    exact t
  · intro x b5 b6 hR
    rw [hR.2.2 (by omega)]
    exact hp b5 b6
/-- a loop that does not fall -/
theorem mc_rxS {post : Int32 → St2 → Prop} {x1 : Int32}
    (h0 : ∀ j, j < 36 → j ≠ K → a1 j = 0) (h1 : K < 36 → ¬ a1 K = 0) (hu : u < 6) (hK : K = 6 * u + u) (hn : n ≤ 6) (hd : ¬ mc_rd a2 a3 top bot x1 K < 0)
    (hp : ∀ b5 b6, (∀ j, j < 6 → b5 j = 0) → post (-1) (nI n, top, bot, a1, a2, a3, a4, b5, b6, a7)) :
    wpX_relax post (nI n, top, bot, a1, a2, a3, a4, a5, a6, a7) x1 := by
  refine mc_relax (K := K) (u := u) (v := u) (d := mc_rd a2 a3 top bot x1 K) (fun i x b5 _ => (∀ j, j < 6 → b5 j = 0) ∧ x = -1)
    h0 h1 hu hu (fun _ => hK) (fun _ => rfl) hn ?_ ?_ ?_ ?_
  · intro b5 b6 hb
    exact ⟨fun j hj => (hb j hj).1, rfl⟩
  · intro i x b5 b6 hi hR hk hb
    rw [hR.1 u hu, Int64.zero_add] at hb
    exact absurd hb hd
  · intro i x b5 b6 hi hR hb
    exact ⟨hR.1, rfl⟩
  · intro x b5 b6 hR
    rw [hR.2]
    exact hp b5 b6 hR.1
/-- a loop that falls -/
theorem mc_rxF {post : Int32 → St2 → Prop} {x1 : Int32}
    (h0 : ∀ j, j < 36 → j ≠ K → a1 j = 0) (h1 : K < 36 → ¬ a1 K = 0) (hu : u < 6) (hK : K = 6 * u + u) (hn : n ≤ 6)
    (hd1 : -100000 ≤ (mc_rd a2 a3 top bot x1 K).toInt) (hd2 : (mc_rd a2 a3 top bot x1 K).toInt < 0)
    (hp : ∀ b5 b6, b6 u = nI u → post (nI u) (nI n, top, bot, a1, a2, a3, a4, b5, b6, a7)) :
    wpX_relax post (nI n, top, bot, a1, a2, a3, a4, a5, a6, a7) x1 := by
  refine mc_relax (K := K) (u := u) (v := u) (d := mc_rd a2 a3 top bot x1 K) (fun i x b5 b6 => b5 u = lN i * mc_rd a2 a3 top bot x1 K ∧ (1 ≤ i → x = nI u ∧ b6 u = nI u))
    h0 h1 hu hu (fun _ => hK) (fun _ => rfl) hn ?_ ?_ ?_ ?_
  · intro b5 b6 hb
    refine ⟨?_, fun z => absurd z (by omega)⟩
    rw [(hb u hu).1, show lN 0 = 0 from rfl, Int64.zero_mul]
  · intro i x b5 b6 hi hR hk hb
    refine ⟨?_, fun _ => ⟨rfl, pk_us⟩⟩
    rw [pk_uLs, hR.1, mc_mulS]
  · intro i x b5 b6 hi hR hb
    have t := hb (by omega)
    rw [hR.1] at t
    exact absurd (mc_lt (by omega) hd1 hd2) t
  · intro x b5 b6 hR
    rw [(hR.2 (by omega)).1]
    exact hp b5 b6 (hR.2 (by omega)).2
end
end
section
section
variable {n K u v : Nat} {pc : Int32} {a1 a2 a3 a6 a7 : Nat → Int32} {a4 a5 : Nat → Int64} {top bot : Int64}
theorem mc_ext {post : St2 → Prop} {l : Nat} {y : Int32} (hl1 : 1 ≤ l) (hl : l ≤ 6) (hu : u < 6) (hv : v < 6)
    (HI : ¬ 1000000000 ≤ a4 (6 * l - 6 + u) → ¬ a4 (6 * l + v) ≤ a4 (6 * l - 6 + u) + y.toInt64 → post (pc, top, bot, a1, a2, a3, vp_updL a4 (6 * l + v) (a4 (6 * l - 6 + u) + y.toInt64), a5, a6, a7))
    (HN : (1000000000 ≤ a4 (6 * l - 6 + u) ∨ a4 (6 * l + v) ≤ a4 (6 * l - 6 + u) + y.toInt64) → post (pc, top, bot, a1, a2, a3, a4, a5, a6, a7)) :
    wpX_extendWalk post (pc, top, bot, a1, a2, a3, a4, a5, a6, a7) (nI l) (nI u) (nI v) y := by
  unfold wpX_extendWalk
  dsimp only
  rw [mc_ixm hl1, mc_ix, nI_clamp (show 6 * l - 6 + u < 2 ^ 31 by omega), nI_clamp (show 6 * l + v < 2 ^ 31 by omega)]
  refine ⟨pk_in (6 * l - 6 + u) 42 (by omega), nm_e (br_c (fun z => HN (Or.inl z)) (fun z => ⟨pk_in (6 * l + v) 42 (by omega), br_c (fun g => HN (Or.inr g)) (fun g => ⟨pk_in (6 * l + v) 42 (by omega), nm_e (HI z g)⟩)⟩))⟩
theorem mc_f45 {post : Int32 → St2 → Prop} {J : Int32 → Int32 → Int64 → Int64 → (Nat → Int32) → (Nat → Int32) → (Nat → Int32) → (Nat → Int64) → (Nat → Int64) → (Nat → Int32) → (Nat → Int32) → Prop} {l : Nat}
    (h0 : ∀ j, j < 36 → j ≠ K → a1 j = 0) (h1 : K < 36 → ¬ a1 K = 0) (hu : u < 6) (hv : v < 6) (hK : K < 36 → K = 6 * u + v) (hl1 : 1 ≤ l) (hl : l ≤ 6)
    (HI : K < 36 → ¬ 1000000000 ≤ a4 (6 * l - 6 + u) → ¬ a4 (6 * l + v) ≤ a4 (6 * l - 6 + u) + (a2 K).toInt64 → J (nI (l + 1)) pc top bot a1 a2 a3 (vp_updL a4 (6 * l + v) (a4 (6 * l - 6 + u) + (a2 K).toInt64)) a5 a6 a7)
    (HN : (K < 36 → (1000000000 ≤ a4 (6 * l - 6 + u) ∨ a4 (6 * l + v) ≤ a4 (6 * l - 6 + u) + (a2 K).toInt64)) → J (nI (l + 1)) pc top bot a1 a2 a3 a4 a5 a6 a7) :
    ∃ fu, wX_findMean_45 post J (nI l) fu 0 pc top bot a1 a2 a3 a4 a5 a6 a7 := by
  by_cases hc : K < 36 ∧ ¬ 1000000000 ≤ a4 (6 * l - 6 + u) ∧ ¬ a4 (6 * l + v) ≤ a4 (6 * l - 6 + u) + (a2 K).toInt64
  · obtain ⟨hk, c1, c2⟩ := hc
    have e1 : nI K / 6 = nI u := mc_dv hu hv (hK hk)
    have e2 : nI K - nI K / 6 * 6 = nI v := mc_md hu hv (hK hk)
    refine pk_loop (σ := Nat → Int64) (fun f j s => wX_findMean_45 post J (nI l) f (nI j) pc top bot a1 a2 a3 s a5 a6 a7)
      (fun j s => (j ≤ K → s = a4) ∧ (K < j → s = vp_updL a4 (6 * l + v) (a4 (6 * l - 6 + u) + (a2 K).toInt64))) 36 0 a4 (by omega) ⟨fun _ => rfl, fun z => absurd z (by omega)⟩ ?_ ?_
    · intro f s hs
      rw [hs.2 hk]
      exact pk_le 36 36 (fun _ => nm_r (nI_1 l) (HI hk c1 c2)) (fun z => absurd z (by omega))
    · intro f j s hj hs hw
      refine pk_le 36 j (fun z => absurd z (by omega)) (fun _ => ⟨pk_in j 36 hj, ?_⟩)
      rw [nI_clamp (show j < 2 ^ 31 by omega)]
      by_cases hjK : j = K
      · subst hjK
        have t := hw _ ⟨fun z => absurd z (by omega), fun _ => rfl⟩
        rw [hs.1 (Nat.le_refl _)]
        refine br_f (h1 hk) ⟨by decide, by decide, pk_in j 36 hj, ?_⟩
        rw [e2, e1]
        exact mc_ext hl1 hl hu hv (fun _ _ => nm_r (nI_1 j) t) (fun z => absurd z (fun g => g.elim c1 c2))
      · exact br_t (h0 j hj hjK) (nm_r (nI_1 j) (hw _ ⟨fun z => hs.1 (by omega), fun z => hs.2 (by omega)⟩))
  · have hN : K < 36 → (1000000000 ≤ a4 (6 * l - 6 + u) ∨ a4 (6 * l + v) ≤ a4 (6 * l - 6 + u) + (a2 K).toInt64) := by
      intro hk
      by_cases c1 : 1000000000 ≤ a4 (6 * l - 6 + u)
      · exact Or.inl c1
      · by_cases c2 : a4 (6 * l + v) ≤ a4 (6 * l - 6 + u) + (a2 K).toInt64
        · exact Or.inr c2
        · exact absurd ⟨hk, c1, c2⟩ hc
    refine pk_loop (σ := Unit) (fun f j _ => wX_findMean_45 post J (nI l) f (nI j) pc top bot a1 a2 a3 a4 a5 a6 a7)
      (fun _ _ => True) 36 0 () (by omega) trivial ?_ ?_
    · intro f s _
      exact pk_le 36 36 (fun _ => nm_r (nI_1 l) (HN hN)) (fun z => absurd z (by omega))
    · intro f j s hj _ hw
      refine pk_le 36 j (fun z => absurd z (by omega)) (fun _ => ⟨pk_in j 36 hj, ?_⟩)
      rw [nI_clamp (show j < 2 ^ 31 by omega)]
      by_cases hjK : j = K
      · subst hjK
        have e1 : nI j / 6 = nI u := mc_dv hu hv (hK hj)
        have e2 : nI j - nI j / 6 * 6 = nI v := mc_md hu hv (hK hj)
        refine br_f (h1 hj) ⟨by decide, by decide, pk_in j 36 hj, ?_⟩
        rw [e2, e1]
        exact mc_ext hl1 hl hu hv (fun c1 c2 => absurd (hN hj) (fun g => g.elim c1 c2)) (fun _ => nm_r (nI_1 j) (hw () trivial))
      · exact br_t (h0 j hj hjK) (nm_r (nI_1 j) (hw () trivial))
theorem mc_fm {post : Int32 → St2 → Prop} (R : Nat → (Nat → Int64) → Prop)
    (h0 : ∀ j, j < 36 → j ≠ K → a1 j = 0) (h1 : K < 36 → ¬ a1 K = 0) (hu : u < 6) (hv : v < 6) (hK : K < 36 → K = 6 * u + v) (hn1 : 1 ≤ n) (hn : n ≤ 6)
    (R0 : ∀ b4, (∀ j, j < 6 → b4 j = 0) → (∀ j, 6 ≤ j → j < 42 → b4 j = 1000000000) → R 1 b4)
    (RI : ∀ l b4, 1 ≤ l → l ≤ n → R l b4 → K < 36 → ¬ 1000000000 ≤ b4 (6 * l - 6 + u) → ¬ b4 (6 * l + v) ≤ b4 (6 * l - 6 + u) + (a2 K).toInt64 → R (l + 1) (vp_updL b4 (6 * l + v) (b4 (6 * l - 6 + u) + (a2 K).toInt64)))
    (RN : ∀ l b4, 1 ≤ l → l ≤ n → R l b4 → (K < 36 → (1000000000 ≤ b4 (6 * l - 6 + u) ∨ b4 (6 * l + v) ≤ b4 (6 * l - 6 + u) + (a2 K).toInt64)) → R (l + 1) b4)
    (RX : ∀ b4, R (n + 1) b4 → ∃ fu, wX_findMean_95 post fu 0 0 (nI n) top bot a1 a2 a3 b4 a5 a6 a7) :
    wpX_findMean post (nI n, top, bot, a1, a2, a3, a4, a5, a6, a7) := by
  have h35 : ∀ b4, R 1 b4 → ∃ fu, wX_findMean_35 post fu 1 (nI n) top bot a1 a2 a3 b4 a5 a6 a7 := by
    intro b4 hb
    refine pk_loop (σ := Nat → Int64) (fun f l s => wX_findMean_35 post f (nI l) (nI n) top bot a1 a2 a3 s a5 a6 a7)
      (fun l s => 1 ≤ l ∧ R l s) (n + 1) 1 b4 (by omega) ⟨by omega, hb⟩ ?_ ?_
    · intro f s hs
      exact pk_lt n (n + 1) (fun _ => RX _ hs.2) (fun z => absurd z (by omega))
    · intro f l s hl hs hw
      refine pk_lt n l (fun z => absurd z (by omega)) (fun _ => ?_)
      exact mc_f45 h0 h1 hu hv hK hs.1 (by omega) (fun a b c => hw _ ⟨by omega, RI l _ hs.1 (by omega) hs.2 a b c⟩) (fun a => hw _ ⟨by omega, RN l _ hs.1 (by omega) hs.2 a⟩)
  unfold wpX_findMean
  dsimp only
  refine pk_loop (σ := Nat → Int64) (fun f i s => wX_findMean_2 post (nI n) top bot f (nI i) a1 a2 a3 s a5 a6 a7)
    (fun i s => (∀ j, j < i → j < 6 → s j = 0) ∧ (∀ j, j < i → 6 ≤ j → s j = 1000000000)) 42 0 a4 (by omega) ⟨fun j hj => absurd hj (by omega), fun j hj => absurd hj (by omega)⟩ ?_ ?_
  · intro f s hs
    exact pk_le 42 42 (fun _ => h35 s (R0 s (fun j hj => hs.1 j (by omega) hj) (fun j h6 hj => hs.2 j hj h6))) (fun z => absurd z (by omega))
  · intro f i s hi hs hw
    refine pk_le 42 i (fun z => absurd z (by omega)) (fun _ => ?_)
    rw [nI_clamp (show i < 2 ^ 31 by omega)]
    refine pk_le 6 i (fun z => ⟨pk_in i 42 hi, nm_e (nm_r (nI_1 i) (hw _ ⟨fun j hj g => ?_, fun j hj g => ?_⟩))⟩) (fun z => ⟨pk_in i 42 hi, nm_e (nm_r (nI_1 i) (hw _ ⟨fun j hj g => ?_, fun j hj g => ?_⟩))⟩)
    · rw [pk_uLn (show j ≠ i by omega)]
      exact hs.1 j (by omega) g
    · by_cases e : j = i
      · rw [e, pk_uLs]
      · rw [pk_uLn e]
        exact hs.2 j (by omega) g
    · by_cases e : j = i
      · rw [e, pk_uLs]
      · rw [pk_uLn e]
        exact hs.1 j (by omega) g
    · rw [pk_uLn (show j ≠ i by omega)]
      exact hs.2 j (by omega) g
/-- no circle: the answer is false -/
theorem mc_fmN {post : Int32 → St2 → Prop}
    (h0 : ∀ j, j < 36 → j ≠ K → a1 j = 0) (h1 : K < 36 → ¬ a1 K = 0) (hu : u < 6) (hv : v < 6) (hK : K < 36 → K = 6 * u + v) (hn1 : 1 ≤ n) (hn : n ≤ 6) (huv : K < 36 → u ≠ v ∧ 2 ≤ n)
    (hp : ∀ b4, post 0 (nI n, top, bot, a1, a2, a3, b4, a5, a6, a7)) :
    wpX_findMean post (nI n, top, bot, a1, a2, a3, a4, a5, a6, a7) := by
  refine mc_fm (K := K) (u := u) (v := v) (fun _ b4 => ∀ j, 6 ≤ j → j < 42 → (K < 36 → j ≠ 6 + v) → b4 j = 1000000000) h0 h1 hu hv hK hn1 hn ?_ ?_ ?_ ?_
  · intro b4 _ hb j h6 hj _
    exact hb j h6 hj
  · intro l b4 hl1 hl hR hk c1 c2 j h6 hj hne
    have hl' : l = 1 := by
      rcases Nat.lt_or_ge l 2 with z | z
      · omega
      · have e := hR (6 * l - 6 + u) (by omega) (by omega) (fun hk g => (huv hk).1 (by omega))
        rw [e] at c1
        exact absurd (by decide) c1
    rw [pk_uLn (show j ≠ 6 * l + v by have := hne hk; omega)]
    exact hR j h6 hj hne
  · intro l b4 hl1 hl hR _ j h6 hj hne
    exact hR j h6 hj hne
  · intro b4 hR
    refine pk_loop (σ := Unit) (fun f i _ => wX_findMean_95 post f 0 (nI i) (nI n) top bot a1 a2 a3 b4 a5 a6 a7) (fun _ _ => True) n 0 () (by omega) trivial ?_ ?_
    · intro f _ _
      exact pk_le n n (fun _ => br_t rfl ⟨rfl, hp b4⟩) (fun z => absurd z (by omega))
    · intro f i _ hi _ hw
      refine pk_le n i (fun z => absurd z (by omega)) (fun _ => ?_)
      rw [mc_ix, nI_clamp (show 6 * n + i < 2 ^ 31 by omega)]
      refine ⟨pk_in (6 * n + i) 42 (by omega), br_f ?_ (nm_r (nI_1 i) (hw () trivial))⟩
      rw [hR (6 * n + i) (by omega) (by omega) (fun hk g => by have := (huv hk).2; omega)]
      exact mc_fr
/-- what one loop offers -/
theorem mc_off {post : St2 → Prop} {k : Nat} (hu : u < 6) (hn1 : 1 ≤ n) (hn : n ≤ 6) (hk : k < 41) (h4 : ∀ i, i < n + 1 → a4 (6 * i + u) = lN i * mc_W k)
    (hp : post (nI n, lN n * mc_W k, lN n, a1, a2, a3, a4, a5, a6, a7)) :
    wpX_offerMean post (nI n, top, bot, a1, a2, a3, a4, a5, a6, a7) (nI u) 0 := by
  unfold wpX_offerMean
  dsimp only
  rw [mc_ix, nI_clamp (show 6 * n + u < 2 ^ 31 by omega), h4 n (by omega)]
  refine ⟨pk_in (6 * n + u) 42 (by omega), nm_e ?_⟩
  refine pk_loop (σ := Int64 × Int64) (fun f i s => wX_offerMean_24 post (nI u) 0 (lN n * mc_W k) (nI n) top bot a1 a2 a3 a4 a5 a6 a7 f s.1 s.2 (nI i))
    (fun i s => (i = 0 → s = (0, 0)) ∧ (0 < i → s = (lN n * mc_W k, lN n))) n 0 (0, 0) (by omega) ⟨fun _ => rfl, fun z => absurd z (by omega)⟩ ?_ ?_
  · intro f s hs
    rw [hs.2 (by omega)]
    exact pk_le n n (fun _ => br_t rfl hp) (fun z => absurd z (by omega))
  · intro f i s hi hs hw
    have t := hw (lN n * mc_W k, lN n) ⟨fun z => absurd z (by omega), fun _ => rfl⟩
    dsimp only at t
    refine pk_le n i (fun z => absurd z (by omega)) (fun _ => ?_)
    rw [mc_ix, nI_clamp (show 6 * i + u < 2 ^ 31 by omega), h4 i (by omega), pk_sub (by omega), nI_l (by omega)]
    refine ⟨pk_in (6 * i + u) 42 (by omega), nm_e (br_t (mc_lw (by omega) hk) (nm_e (nm_e ?_)))⟩
    rcases Nat.eq_zero_or_pos i with z | z
    · rw [hs.1 z]
      subst z
      refine br_t rfl (nm_r (nI_1 0) ?_)
      rw [show lN 0 = 0 from rfl, Int64.zero_mul, Int64.sub_zero]
      exact t
    · rw [hs.2 z]
      dsimp only
      refine br_f (fun g => absurd ((lN_eq (b := 0) (by omega) (by decide)).mp g) (by omega)) (br_f ?_ (nm_r (nI_1 i) t))
      rw [← lN_sub (by omega), show lN n * mc_W k * (lN n - lN i) = (lN n * mc_W k - lN i * mc_W k) * lN n by grind]
      exact mc_irr _
/-- one loop: the answer is true, the mean its weight -/
theorem mc_fmC {post : Int32 → St2 → Prop} {k : Nat}
    (h0 : ∀ j, j < 36 → j ≠ K → a1 j = 0) (h1 : K < 36 → ¬ a1 K = 0) (hu : u < n) (hK : K = 6 * u + u) (hn1 : 1 ≤ n) (hn : n ≤ 6) (hk : k < 41) (h2 : a2 K = mc_w k)
    (hp : ∀ b4, post 1 (nI n, mc_W k, 1, a1, a2, a3, b4, a5, a6, a7)) :
    wpX_findMean post (nI n, top, bot, a1, a2, a3, a4, a5, a6, a7) := by
  have hW : (a2 K).toInt64 = mc_W k := by rw [h2]; rfl
  refine mc_fm (K := K) (u := u) (v := u) (fun l b4 => (∀ i, i < l → b4 (6 * i + u) = lN i * mc_W k) ∧ (∀ j, 6 ≤ j → j < 42 → (j % 6 ≠ u ∨ 6 * l ≤ j) → b4 j = 1000000000)) h0 h1 (by omega) (by omega) (fun _ => hK) hn1 hn ?_ ?_ ?_ ?_
  · intro b4 hb1 hb2
    refine ⟨fun i hi => ?_, fun j h6 hj _ => hb2 j h6 hj⟩
    have hi0 : i = 0 := by omega
    subst hi0
    rw [hb1 _ (by omega), show lN 0 = 0 from rfl, Int64.zero_mul]
  · intro l b4 hl1 hl hR _ _ _
    rw [hW]
    refine ⟨fun i hi => ?_, fun j h6 hj ho => ?_⟩
    · by_cases e : i = l
      · rw [e, pk_uLs, show 6 * l - 6 + u = 6 * (l - 1) + u by omega, hR.1 (l - 1) (by omega), mc_mulS, show l - 1 + 1 = l by omega]
      · rw [pk_uLn (show 6 * i + u ≠ 6 * l + u by omega)]
        exact hR.1 i (by omega)
    · rw [pk_uLn (show j ≠ 6 * l + u by omega)]
      exact hR.2 j h6 hj (by omega)
  · intro l b4 hl1 hl hR hc
    have c := hc (by omega)
    rw [hW, show 6 * l - 6 + u = 6 * (l - 1) + u by omega, hR.1 (l - 1) (by omega), mc_mulS, show l - 1 + 1 = l by omega, hR.2 (6 * l + u) (by omega) (by omega) (by omega)] at c
    exact absurd c (fun g => g.elim (mc_far (mc_lw (by omega) hk)) (mc_far (mc_lw (by omega) hk)))
  · intro b4 hR
    refine pk_loop (σ := Int32 × Int64 × Int64) (fun f i s => wX_findMean_95 post f s.1 (nI i) (nI n) s.2.1 s.2.2 a1 a2 a3 b4 a5 a6 a7)
      (fun i s => (i ≤ u → s = (0, top, bot)) ∧ (u < i → s = (1, lN n * mc_W k, lN n))) n 0 (0, top, bot) (by omega) ⟨fun _ => rfl, fun z => absurd z (by omega)⟩ ?_ ?_
    · intro f s hs
      rw [hs.2 hu]
      refine pk_le n n (fun _ => br_f (show ¬ (1 : Int32) = 0 by decide) ?_) (fun z => absurd z (by omega))
      refine mc_low (n * mc_s k) n (by omega) ?_ (by omega) (mc_mp n (by omega) k hk) (mc_mn n (by omega) k hk) rfl ?_
      · have : n * mc_s k ≤ 6 * 40 := Nat.mul_le_mul hn (by unfold mc_s; omega)
        omega
      · rw [mc_mt n (by omega) hn1 k hk, mc_mb n (by omega) hn1 k hk]
        exact ⟨narrow_b1, hp b4⟩
    · intro f i s hi hs hw
      refine pk_le n i (fun z => absurd z (by omega)) (fun _ => ?_)
      rw [mc_ix, nI_clamp (show 6 * n + i < 2 ^ 31 by omega)]
      refine ⟨pk_in (6 * n + i) 42 (by omega), ?_⟩
      by_cases e : i = u
      · subst e
        rw [hs.1 (Nat.le_refl _), hR.1 n (by omega)]
        refine br_t (mc_lw (by omega) hk) ?_
        exact mc_off (by omega) hn1 hn hk hR.1 (nm_r (nI_1 i) (hw (1, lN n * mc_W k, lN n) ⟨fun z => absurd z (by omega), fun _ => rfl⟩))
      · rw [hR.2 (6 * n + i) (by omega) (by omega) (by omega)]
        exact br_f mc_fr (nm_r (nI_1 i) (hw _ ⟨fun z => hs.1 (by omega), fun z => hs.2 (by omega)⟩))
end
end
section
section
variable {n K u v : Nat} {pc : Int32} {a1 a2 a3 a6 a7 : Nat → Int32} {a4 a5 : Nat → Int64} {top bot : Int64}
theorem mc_rd1 {k t : Nat} (h2 : a2 K = mc_w k) (h3 : a3 K = nI t) : mc_rd a2 a3 top bot 1 K = mc_W k * bot - top * (nI t).toInt64 := by
  unfold mc_rd
  rw [if_neg (by decide), h2, h3]
  rfl
theorem mc_rd0 {k : Nat} (h2 : a2 K = mc_w k) : mc_rd a2 a3 (mc_W k) 1 0 K = 0 := by
  unfold mc_rd
  rw [if_pos rfl, h2]
  show mc_W k * 1 - mc_W k * 1 = 0
  exact Int64.sub_self _
theorem mc_tc {post : St2 → Prop} {k t : Nat} (hu : u < 6) (hK : K = 6 * u + u) (hn : n ≤ 6) (hk : k < 41) (ht1 : 1 ≤ t) (ht : t < 6) (h2 : a2 K = mc_w k) (h3 : a3 K = nI t) (h6 : a6 u = nI u)
    (hp : post (nI n, mc_W k / mc_g k t, lN t / mc_g k t, a1, a2, a3, a4, a5, a6, a7)) :
    wpX_takeCircle post (nI n, top, bot, a1, a2, a3, a4, a5, a6, a7) (nI u) := by
  have e6 : a6 (nI u).toNatClampNeg = nI u := by rw [nI_clamp (show u < 2 ^ 31 by omega)]; exact h6
  unfold wpX_takeCircle
  dsimp only
  refine pk_loop (σ := Unit) (fun f i _ => wX_takeCircle_4 post (nI n) top bot a1 a2 a3 a4 a5 a6 a7 f (nI u) (nI i)) (fun _ _ => True) n 0 () (by omega) trivial ?_ ?_
  · intro f _ _
    refine pk_le n n (fun _ => ⟨0 + 1 + 1, br_t rfl ?_⟩) (fun z => absurd z (by omega))
    unfold wX_takeCircle_47
    refine ⟨pk_in u 6 hu, nm_r e6 ?_⟩
    rw [mc_ix, nI_clamp (show 6 * u + u < 2 ^ 31 by omega), ← hK, h2, h3]
    refine ⟨pk_in K 36 (by omega), nm_r (Int64.zero_add _) ⟨pk_in K 36 (by omega), nm_r (Int64.zero_add _) (nm_e (br_f (by decide) (br_t rfl ?_)))⟩⟩
    refine mc_low (mc_s k) t (by omega) (by unfold mc_s; omega) (by omega) (mc_rp k hk) (mc_rn k hk) (nI_l (by omega)) ?_
    rw [nI_l (show t < 2 ^ 31 by omega)]
    exact hp
  · intro f i _ hi _ hw
    exact pk_le n i (fun z => absurd z (by omega)) (fun _ => ⟨pk_in u 6 hu, nm_r e6 (nm_r (nI_1 i) (hw () trivial))⟩)
theorem mc_frN {post : Int32 → St2 → Prop}
    (h0 : ∀ j, j < 36 → j ≠ K → a1 j = 0) (h1 : K < 36 → ¬ a1 K = 0) (hu : u < 6) (hv : v < 6) (hK : K < 36 → K = 6 * u + v) (hn1 : 1 ≤ n) (hn : n ≤ 6) (huv : K < 36 → u ≠ v)
    (hp : ∀ b5 b6, post 0 (nI n, 21, 1, a1, a2, a3, a4, b5, b6, a7)) :
    wpX_findRatio post (nI n, top, bot, a1, a2, a3, a4, a5, a6, a7) := by
  unfold wpX_findRatio
  dsimp only
  exact mc_rxN (K := K) (u := u) (v := v) h0 h1 hu hv hK hn1 hn huv (fun b5 b6 => ⟨0 + 1, br_t (by decide) ⟨rfl, hp b5 b6⟩⟩)
theorem mc_frC {post : Int32 → St2 → Prop} {k t : Nat}
    (h0 : ∀ j, j < 36 → j ≠ K → a1 j = 0) (h1 : K < 36 → ¬ a1 K = 0) (hu : u < 6) (hK : K = 6 * u + u) (hn : n ≤ 6) (hk : k < 41) (ht1 : 1 ≤ t) (ht : t < 6) (h2 : a2 K = mc_w k) (h3 : a3 K = nI t)
    (hp : ∀ b5 b6, post 1 (nI n, mc_W k / mc_g k t, lN t / mc_g k t, a1, a2, a3, a4, b5, b6, a7)) :
    wpX_findRatio post (nI n, top, bot, a1, a2, a3, a4, a5, a6, a7) := by
  unfold wpX_findRatio
  dsimp only
  have b := mc_r21 t ht ht1 k hk
  refine mc_rxF (K := K) (u := u) h0 h1 hu hK hn (by rw [mc_rd1 h2 h3]; exact b.1) (by rw [mc_rd1 h2 h3]; exact b.2) (fun b5 b6 h6 => ⟨0 + 1 + 1, br_f (nI_pos (by omega)) ?_⟩)
  refine mc_tc hu hK hn hk ht1 ht h2 h3 h6 ?_
  refine mc_rxS (K := K) (u := u) h0 h1 hu hK hn (by rw [mc_rd1 h2 h3, mc_r0 t ht ht1 k hk]; decide) (fun c5 c6 _ => br_t (by decide) ⟨narrow_b1, hp c5 c6⟩)
end
end
section
section
variable {n K u v : Nat} {pc : Int32} {a1 a2 a3 a6 a7 : Nat → Int32} {a4 a5 : Nat → Int64} {top bot : Int64}
/-- the one bit of the one loop -/
def mc_B (u i : Nat) : Int32 := if i = u then (1 : Int32) <<< (nI u &&& 31) else 0
theorem mc_Bu (u : Nat) : mc_B u u = (1 : Int32) <<< (nI u &&& 31) := if_pos rfl
theorem mc_Bn {u i : Nat} (h : i ≠ u) : mc_B u i = 0 := if_neg h
theorem mc_bz {i m : Nat} (hu : u < 6) (hm : m < 6) (h : ¬ ((mc_B u i) >>> (nI m &&& 31)) &&& 1 = 0) : i = u ∧ m = u := by
  by_cases e : i = u
  · subst e
    rw [mc_Bu] at h
    by_cases g : m = i
    · exact ⟨rfl, g⟩
    · exact absurd (mc_b1 i hu m hm g) h
  · rw [mc_Bn e] at h
    exact absurd (mc_b0 m hm) h
theorem mc_it {post : Int32 → Prop} {i j : Nat}
    (h0 : ∀ j, j < 36 → j ≠ K → a1 j = 0) (h1 : K < 36 → ¬ a1 K = 0) (hu : u < 6) (hK : K = 6 * u + u) (hi : i < 6) (hj : j < 6) (h5 : ∀ j, j < 6 → a5 j = 0) (hd : mc_rd a2 a3 top bot 0 K = 0)
    (Hy : i = u ∧ j = u → post 1) (Hn : ¬ (i = u ∧ j = u) → post 0) :
    wpX_isTight post (pc, top, bot, a1, a2, a3, a4, a5, a6, a7) (nI i) (nI j) 0 := by
  unfold wpX_isTight
  dsimp only
  rw [mc_ix]
  refine nm_e ⟨pk_in (6 * i + j) 36 (by omega), ?_⟩
  rw [nI_clamp (show 6 * i + j < 2 ^ 31 by omega)]
  by_cases e : 6 * i + j = K
  · rw [e]
    refine br_f (h1 (by omega)) ⟨pk_in i 6 hi, mc_rw (by omega) ?_⟩
    rw [hd, nI_clamp (show i < 2 ^ 31 by omega), nI_clamp (show j < 2 ^ 31 by omega), h5 i hi, h5 j hj]
    exact nm_e ⟨pk_in j 6 hj, br_t (by decide) (Hy (by omega))⟩
  · exact br_t (h0 _ (by omega) e) (Hn (by omega))
theorem mc_t23 {post : St2 → Prop} {J : Int32 → (Nat → Int32) → (Nat → Int32) → (Nat → Int32) → (Nat → Int64) → (Nat → Int64) → (Nat → Int32) → (Nat → Int32) → Prop} {i : Nat}
    (h0 : ∀ j, j < 36 → j ≠ K → a1 j = 0) (h1 : K < 36 → ¬ a1 K = 0) (hu : u < 6) (hK : K = 6 * u + u) (hi : i < 6) (h5 : ∀ j, j < 6 → a5 j = 0) (hd : mc_rd a2 a3 top bot 0 K = 0) (h7 : a7 i = 0)
    (H : ∀ b7, (∀ q, q ≠ i → b7 q = a7 q) → b7 i = mc_B u i → J (nI (i + 1)) a1 a2 a3 a4 a5 a6 b7) :
    ∃ fu, wX_findTight_23 post J 0 (nI i) pc top bot fu 0 a1 a2 a3 a4 a5 a6 a7 := by
  refine pk_loop (σ := Nat → Int32) (fun f j s => wX_findTight_23 post J 0 (nI i) pc top bot f (nI j) a1 a2 a3 a4 a5 a6 s)
    (fun j s => (∀ q, q ≠ i → s q = a7 q) ∧ (i = u ∧ u < j → s i = mc_B u i) ∧ (¬ (i = u ∧ u < j) → s i = 0)) 6 0 a7 (by omega) ⟨fun _ _ => rfl, fun z => absurd z (by omega), fun _ => h7⟩ ?_ ?_
  · intro f s hs
    refine pk_le 6 6 (fun _ => nm_r (nI_1 i) (H s hs.1 ?_)) (fun z => absurd z (by omega))
    by_cases e : i = u
    · exact hs.2.1 ⟨e, hu⟩
    · rw [mc_Bn e]
      exact hs.2.2 (fun z => e z.1)
  · intro f j s hj hs hw
    refine pk_le 6 j (fun z => absurd z (by omega)) (fun _ => ?_)
    refine mc_it h0 h1 hu hK hi hj h5 hd (fun z => br_f (by decide) ⟨pk_in i 6 hi, pk_in i 6 hi, ?_⟩) (fun z => br_t rfl (nm_r (nI_1 j) (hw _ ⟨hs.1, fun g => hs.2.1 (by omega), fun g => hs.2.2 (by omega)⟩)))
    rw [nI_clamp (show i < 2 ^ 31 by omega), hs.2.2 (by omega), mc_b0o]
    refine nm_e (nm_r (nI_1 j) (hw _ ⟨fun q hq => ?_, fun _ => ?_, fun g => absurd g (by omega)⟩))
    · rw [pk_un hq]
      exact hs.1 q hq
    · rw [pk_us, z.1, z.2, mc_Bu]
theorem mc_close {post : St2 → Prop} (hu : u < 6) (h7 : ∀ q, q < 6 → a7 q = mc_B u q)
    (hp : ∀ b7, (∀ q, q < 6 → b7 q = mc_B u q) → post (pc, top, bot, a1, a2, a3, a4, a5, a6, b7)) :
    wpX_closeReach post (pc, top, bot, a1, a2, a3, a4, a5, a6, a7) := by
  have h10 : ∀ (J : Int32 → (Nat → Int32) → (Nat → Int32) → (Nat → Int32) → (Nat → Int64) → (Nat → Int64) → (Nat → Int32) → (Nat → Int32) → Prop) (m : Nat) (c7 : Nat → Int32), m < 6 → (∀ q, q < 6 → c7 q = mc_B u q) →
      (∀ b7, (∀ q, q < 6 → b7 q = mc_B u q) → J (nI (m + 1)) a1 a2 a3 a4 a5 a6 b7) → ∃ fu, wX_closeReach_10 post J (nI m) pc top bot fu 0 a1 a2 a3 a4 a5 a6 c7 := by
    intro J m c7 hm hc H
    refine pk_loop (σ := Nat → Int32) (fun f i s => wX_closeReach_10 post J (nI m) pc top bot f (nI i) a1 a2 a3 a4 a5 a6 s)
      (fun _ s => ∀ q, q < 6 → s q = mc_B u q) 6 0 c7 (by omega) hc ?_ ?_
    · intro f s hs
      exact pk_le 6 6 (fun _ => nm_r (nI_1 m) (H s hs)) (fun z => absurd z (by omega))
    · intro f i s hi hs hw
      refine pk_le 6 i (fun z => absurd z (by omega)) (fun _ => ⟨pk_in i 6 hi, ?_⟩)
      rw [nI_clamp (show i < 2 ^ 31 by omega), nI_clamp (show m < 2 ^ 31 by omega), hs i hi, hs m hm]
      refine br_c (fun z => nm_r (nI_1 i) (hw s hs)) (fun z => ⟨pk_in i 6 hi, pk_in m 6 hm, pk_in i 6 hi, nm_e (nm_r (nI_1 i) (hw _ (fun q hq => ?_)))⟩)
      obtain ⟨e1, e2⟩ := mc_bz hu hm z
      by_cases e : q = i
      · rw [e, pk_us, e1, e2, mc_bo]
      · rw [pk_un e]
        exact hs q hq
  unfold wpX_closeReach
  dsimp only
  refine pk_loop (σ := Nat → Int32) (fun f i s => wX_closeReach_2 post pc top bot f (nI i) a1 a2 a3 a4 a5 a6 s)
    (fun _ s => ∀ q, q < 6 → s q = mc_B u q) 6 0 a7 (by omega) h7 ?_ ?_
  · intro f s hs
    exact pk_le 6 6 (fun _ => hp s hs) (fun z => absurd z (by omega))
  · intro f i s hi hs hw
    exact pk_le 6 i (fun z => absurd z (by omega)) (fun _ => h10 _ i s hi hs hw)
theorem mc_ft {post : St2 → Prop} {k : Nat}
    (h0 : ∀ j, j < 36 → j ≠ K → a1 j = 0) (h1 : K < 36 → ¬ a1 K = 0) (hu : u < 6) (hK : K = 6 * u + u) (hn : n ≤ 6) (h2 : a2 K = mc_w k)
    (hp : ∀ b5 b6 b7, (∀ q, q < 6 → b7 q = mc_B u q) → post (nI n, mc_W k, 1, a1, a2, a3, a4, b5, b6, b7)) :
    wpX_findTight post (nI n, mc_W k, 1, a1, a2, a3, a4, a5, a6, a7) 0 := by
  have hd : mc_rd a2 a3 (mc_W k) 1 0 K = 0 := mc_rd0 h2
  unfold wpX_findTight
  dsimp only
  refine mc_rxS (K := K) (u := u) h0 h1 hu hK hn (by rw [hd]; decide) (fun b5 b6 h5 => ?_)
  refine pk_loop (σ := Nat → Int32) (fun f i s => wX_findTight_8 post 0 (nI n) (mc_W k) 1 f (nI i) a1 a2 a3 a4 b5 b6 s)
    (fun i s => ∀ q, q < i → s q = mc_B u q) 6 0 a7 (by omega) (fun q hq => absurd hq (by omega)) ?_ ?_
  · intro f s hs
    refine pk_le 6 6 (fun _ => ?_) (fun z => absurd z (by omega))
    exact mc_close hu hs (fun b7 h7 => hp b5 b6 b7 h7)
  · intro f i s hi hs hw
    refine pk_le 6 i (fun z => absurd z (by omega)) (fun _ => ⟨pk_in i 6 hi, ?_⟩)
    rw [nI_clamp (show i < 2 ^ 31 by omega)]
    refine nm_e (mc_t23 h0 h1 hu hK hi h5 hd pk_us (fun b7 g1 g2 => hw b7 (fun q hq => ?_)))
    by_cases e : q = i
    · rw [e]
      exact g2
    · rw [g1 q e, pk_un e]
      exact hs q (by omega)
theorem mc_otc {post : Int32 → Prop} (hu : u < n) (hn : n ≤ 6) (h7 : ∀ q, q < 6 → a7 q = mc_B u q) (hp : post ((1 : Int32) <<< (nI u &&& 31))) :
    wpX_onTightCircle post (nI n, top, bot, a1, a2, a3, a4, a5, a6, a7) := by
  unfold wpX_onTightCircle
  dsimp only
  refine pk_loop (σ := Int32) (fun f i s => wX_onTightCircle_4 post (nI n) top bot a1 a2 a3 a4 a5 a6 a7 f s (nI i))
    (fun i s => (i ≤ u → s = 0) ∧ (u < i → s = (1 : Int32) <<< (nI u &&& 31))) n 0 0 (by omega) ⟨fun _ => rfl, fun z => absurd z (by omega)⟩ ?_ ?_
  · intro f s hs
    rw [hs.2 hu]
    exact pk_le n n (fun _ => hp) (fun z => absurd z (by omega))
  · intro f i s hi hs hw
    refine pk_le n i (fun z => absurd z (by omega)) (fun _ => ⟨pk_in i 6 (by omega), ?_⟩)
    rw [nI_clamp (show i < 2 ^ 31 by omega), h7 i (by omega)]
    by_cases e : i = u
    · subst e
      rw [mc_Bu, hs.1 (Nat.le_refl _), mc_b0o]
      exact br_f (mc_b2 i (by omega)) (nm_e (nm_r (nI_1 i) (hw _ ⟨fun z => absurd z (by omega), fun _ => rfl⟩)))
    · rw [mc_Bn e]
      exact br_t (mc_b0 i (by omega)) (nm_r (nI_1 i) (hw s ⟨fun z => hs.1 (by omega), fun z => hs.2 (by omega)⟩))
end
end
section
section
variable {n K u v k t : Nat} {a1 a2 a3 a6 a7 : Nat → Int32} {a4 a5 : Nat → Int64} {top bot : Int64}
/-- no circle: no arc (36 ≤ K), or one arc between two points -/
def mc_pN (n K u v : Nat) (a1 : Nat → Int32) : Prop := 1 ≤ n ∧ n ≤ 6 ∧ u < 6 ∧ v < 6 ∧ (∀ j, j < 36 → j ≠ K → a1 j = 0) ∧ (K < 36 → ¬ a1 K = 0) ∧ (K < 36 → K = 6 * u + v) ∧ (K < 36 → u ≠ v ∧ 2 ≤ n)
/-- one loop at u -/
def mc_pC (n K u k t : Nat) (a1 a2 a3 : Nat → Int32) : Prop := 1 ≤ n ∧ n ≤ 6 ∧ u < n ∧ K = 6 * u + u ∧ k < 41 ∧ 1 ≤ t ∧ t < 6 ∧ (∀ j, j < 36 → j ≠ K → a1 j = 0) ∧ (K < 36 → ¬ a1 K = 0) ∧ a2 K = mc_w k ∧ a3 K = nI t
theorem mc_mtN {post : Int32 → St2 → Prop} (h : mc_pN n K u v a1) (hp : ∀ b4, post (-1000) (nI n, top, bot, a1, a2, a3, b4, a5, a6, a7)) :
    wpX_meanTop post (nI n, top, bot, a1, a2, a3, a4, a5, a6, a7) := by
  obtain ⟨n1, n6, hu, hv, h0, h1, hK, huv⟩ := h
  unfold wpX_meanTop
  dsimp only
  exact mc_fmN (K := K) (u := u) (v := v) h0 h1 hu hv hK n1 n6 huv (fun b4 => br_t rfl (hp b4))
theorem mc_rbN {post : Int32 → St2 → Prop} (h : mc_pN n K u v a1) (hp : ∀ b5 b6, post (-1000) (nI n, 21, 1, a1, a2, a3, a4, b5, b6, a7)) :
    wpX_ratioBottom post (nI n, top, bot, a1, a2, a3, a4, a5, a6, a7) := by
  obtain ⟨n1, n6, hu, hv, h0, h1, hK, huv⟩ := h
  unfold wpX_ratioBottom
  dsimp only
  exact mc_frN (K := K) (u := u) (v := v) h0 h1 hu hv hK n1 n6 (fun z => (huv z).1) (fun b5 b6 => br_t rfl (hp b5 b6))
theorem mc_mpN {post : Int32 → St2 → Prop} (h : mc_pN n K u v a1) (hp : ∀ b4, post 0 (nI n, top, bot, a1, a2, a3, b4, a5, a6, a7)) :
    wpX_meanPoints post (nI n, top, bot, a1, a2, a3, a4, a5, a6, a7) := by
  obtain ⟨n1, n6, hu, hv, h0, h1, hK, huv⟩ := h
  unfold wpX_meanPoints
  dsimp only
  exact mc_fmN (K := K) (u := u) (v := v) h0 h1 hu hv hK n1 n6 huv (fun b4 => br_t rfl (hp b4))
theorem mc_stN {post : Int32 → St2 → Prop} {p : Int32} (h : mc_pN n K u v a1) (H1 : p < (-100) → post 0 (nI n, top, bot, a1, a2, a3, a4, a5, a6, a7)) (H2 : ¬ p < (-100) → 100 < p → post 0 (nI n, top, bot, a1, a2, a3, a4, a5, a6, a7))
    (H3 : ¬ p < (-100) → ¬ 100 < p → ∀ b5 b6, post 1 (nI n, p.toInt64, 1, a1, a2, a3, a4, b5, b6, a7)) :
    wpX_steady post (nI n, top, bot, a1, a2, a3, a4, a5, a6, a7) p := by
  obtain ⟨n1, n6, hu, hv, h0, h1, hK, huv⟩ := h
  unfold wpX_steady
  dsimp only
  refine br_c H1 (fun c1 => br_c (fun c2 => ?_) (fun c2 => H2 c1 (Int32.not_le.mp c2)))
  exact mc_rxN (K := K) (u := u) (v := v) h0 h1 hu hv hK n1 n6 (fun z => (huv z).1) (fun b5 b6 => br_f (by decide) (H3 c1 (Int32.not_lt.mpr c2) b5 b6))
theorem mc_Wi : ∀ k, k < 41 → (mc_W k).toInt32 = mc_w k := by decide +kernel
theorem mc_mtC {post : Int32 → St2 → Prop} (h : mc_pC n K u k t a1 a2 a3) (hp : ∀ b4, post (mc_w k) (nI n, mc_W k, 1, a1, a2, a3, b4, a5, a6, a7)) :
    wpX_meanTop post (nI n, top, bot, a1, a2, a3, a4, a5, a6, a7) := by
  obtain ⟨n1, n6, hu, hK, hk, t1, t6, h0, h1, h2, h3⟩ := h
  unfold wpX_meanTop
  dsimp only
  refine mc_fmC (K := K) (u := u) (k := k) h0 h1 hu hK n1 n6 hk h2 (fun b4 => br_f (by decide) ?_)
  rw [mc_Wi k hk]
  exact hp b4
theorem mc_rbC {post : Int32 → St2 → Prop} (h : mc_pC n K u k t a1 a2 a3) (hp : ∀ b5 b6, post (lN t / mc_g k t).toInt32 (nI n, mc_W k / mc_g k t, lN t / mc_g k t, a1, a2, a3, a4, b5, b6, a7)) :
    wpX_ratioBottom post (nI n, top, bot, a1, a2, a3, a4, a5, a6, a7) := by
  obtain ⟨n1, n6, hu, hK, hk, t1, t6, h0, h1, h2, h3⟩ := h
  unfold wpX_ratioBottom
  dsimp only
  exact mc_frC (K := K) (u := u) (k := k) (t := t) h0 h1 (by omega) hK n6 hk t1 t6 h2 h3 (fun b5 b6 => br_f (by decide) (hp b5 b6))
theorem mc_mpC {post : Int32 → St2 → Prop} (h : mc_pC n K u k t a1 a2 a3) (hp : ∀ b4 b5 b6 b7, post ((1 : Int32) <<< (nI u &&& 31)) (nI n, mc_W k, 1, a1, a2, a3, b4, b5, b6, b7)) :
    wpX_meanPoints post (nI n, top, bot, a1, a2, a3, a4, a5, a6, a7) := by
  obtain ⟨n1, n6, hu, hK, hk, t1, t6, h0, h1, h2, h3⟩ := h
  unfold wpX_meanPoints
  dsimp only
  refine mc_fmC (K := K) (u := u) (k := k) h0 h1 hu hK n1 n6 hk h2 (fun b4 => br_f (by decide) ?_)
  refine mc_ft (K := K) (u := u) h0 h1 (by omega) hK n6 h2 (fun b5 b6 b7 h7 => ?_)
  exact mc_otc hu n6 h7 (hp b4 b5 b6 b7)
theorem mc_stC {post : Int32 → St2 → Prop} {p : Int32} (h : mc_pC n K u k t a1 a2 a3) (H1 : p < (-100) → post 0 (nI n, top, bot, a1, a2, a3, a4, a5, a6, a7)) (H2 : ¬ p < (-100) → 100 < p → post 0 (nI n, top, bot, a1, a2, a3, a4, a5, a6, a7))
    (H3 : ¬ p < (-100) → ¬ 100 < p → mc_w k < p * nI t → ∀ b5 b6, post 0 (nI n, p.toInt64, 1, a1, a2, a3, a4, b5, b6, a7))
    (H4 : ¬ p < (-100) → ¬ 100 < p → ¬ mc_w k < p * nI t → ∀ b5 b6, post 1 (nI n, p.toInt64, 1, a1, a2, a3, a4, b5, b6, a7)) :
    wpX_steady post (nI n, top, bot, a1, a2, a3, a4, a5, a6, a7) p := by
  obtain ⟨n1, n6, hu, hK, hk, t1, t6, h0, h1, h2, h3⟩ := h
  unfold wpX_steady
  dsimp only
  refine br_c H1 (fun c1 => br_c (fun c2 => ?_) (fun c2 => H2 c1 (Int32.not_le.mp c2)))
  have c2' : ¬ 100 < p := Int32.not_lt.mpr c2
  obtain ⟨e1, e2, b1, b2⟩ := mc_dp (k := k) c1 c2 t6 hk
  by_cases c : mc_w k < p * nI t
  · have g := e2.mp c
    refine mc_rxF (K := K) (u := u) h0 h1 (by omega) hK n6 (by rw [mc_rd1 h2 h3, e1]; omega) (by rw [mc_rd1 h2 h3, e1]; omega) (fun b5 b6 _ => br_t (nI_pos' (by omega)) (H3 c1 c2' c b5 b6))
  · have g : ¬ (k : Int) - 20 < p.toInt * t := fun z => c (e2.mpr z)
    refine mc_rxS (K := K) (u := u) h0 h1 (by omega) hK n6 ?_ (fun b5 b6 _ => br_f (by decide) (H4 c1 c2' c b5 b6))
    rw [mc_rd1 h2 h3, Int64.lt_iff_toInt_lt, e1, show (0 : Int64).toInt = 0 from rfl]
    omega
/-! points, arc, cut, init -/
theorem mc_isp {post : Int32 → Prop} {x : Int32} (hn : n ≤ 6) (h0 : post 0) (h1 : ∀ j, j < n → x = nI j → post 1) : wpX_isPoint post (nI n, top, bot, a1, a2, a3, a4, a5, a6, a7) x := by
  refine br_c (fun _ => h0) (fun z => br_c (fun _ => h0) (fun g => ?_))
  rcases pk_ix x (show n < 2 ^ 31 by omega) with c | c | ⟨j, hj, e⟩
  · exact absurd c z
  · exact absurd c g
  · exact h1 j hj e
theorem mc_isY {post : Int32 → Prop} {j : Nat} (hn : n ≤ 6) (hj : j < n) (h1 : post 1) : wpX_isPoint post (nI n, top, bot, a1, a2, a3, a4, a5, a6, a7) (nI j) :=
  br_f (nI_pos (by omega)) (br_f (nI_ge hj (by omega)) h1)
theorem mc_cutN {post : Int32 → St2 → Prop} {x1 x2 : Int32} (hn : n ≤ 6) (h0 : ∀ j, j < 36 → a1 j = 0) (hp : post 0 (nI n, top, bot, a1, a2, a3, a4, a5, a6, a7)) :
    wpX_cut post (nI n, top, bot, a1, a2, a3, a4, a5, a6, a7) x1 x2 := by
  unfold wpX_cut
  dsimp only
  refine mc_isp hn (br_t rfl hp) (fun i hi e1 => br_f (by decide) (mc_isp hn (br_t rfl hp) (fun j hj e2 => br_f (by decide) ?_)))
  rw [e1, e2, mc_ix, nI_clamp (show 6 * i + j < 2 ^ 31 by omega)]
  exact ⟨pk_in (6 * i + j) 36 (by omega), br_t (h0 _ (by omega)) hp⟩
theorem mc_cutY {post : Int32 → St2 → Prop} (hn : n ≤ 6) (hu : u < n) (hv : v < n) (h1 : ¬ a1 (6 * u + v) = 0) (hp : ∀ c1, post 1 (nI n, top, bot, c1, a2, a3, a4, a5, a6, a7)) :
    wpX_cut post (nI n, top, bot, a1, a2, a3, a4, a5, a6, a7) (nI u) (nI v) := by
  unfold wpX_cut
  dsimp only
  refine mc_isY hn hu (br_f (by decide) (mc_isY hn hv (br_f (by decide) ?_)))
  rw [mc_ix, nI_clamp (show 6 * u + v < 2 ^ 31 by omega)]
  exact ⟨pk_in (6 * u + v) 36 (by omega), br_f h1 ⟨pk_in (6 * u + v) 36 (by omega), nm_e (hp _)⟩⟩
/-- what the law calls put -/
def mc_put (n : Nat) (x1 x2 x3 x4 : Int32) : Prop := ¬ x1 < 0 ∧ ¬ nI n ≤ x1 ∧ ¬ x2 < 0 ∧ ¬ nI n ≤ x2 ∧ ¬ x3 < (-20) ∧ ¬ 20 < x3 ∧ ¬ x4 < 1 ∧ ¬ 5 < x4
theorem mc_arcN {post : Int32 → St2 → Prop} {x1 x2 x3 x4 : Int32} (h : ¬ mc_put n x1 x2 x3 x4) (hp : post 0 (nI n, top, bot, a1, a2, a3, a4, a5, a6, a7)) :
    wpX_arc post (nI n, top, bot, a1, a2, a3, a4, a5, a6, a7) x1 x2 x3 x4 := by
  unfold wpX_arc
  dsimp only
  refine br_c (fun _ => br_t rfl hp) (fun c1 => br_c (fun _ => br_t rfl hp) (fun c2 => br_f (by decide) ?_))
  refine br_c (fun _ => br_t rfl hp) (fun c3 => br_c (fun _ => br_t rfl hp) (fun c4 => br_f (by decide) ?_))
  exact br_c (fun _ => hp) (fun c5 => br_c (fun _ => hp) (fun c6 => br_c (fun _ => hp) (fun c7 => br_c (fun c8 => absurd ⟨c1, c2, c3, c4, c5, c6, c7, Int32.not_lt.mpr c8⟩ h) (fun _ => hp))))
theorem mc_arcY {post : Int32 → St2 → Prop} (hn : n ≤ 6) (hu : u < n) (hv : v < n) (hk : k < 41) (t1 : 1 ≤ t) (t6 : t < 6) (h5 : ¬ mc_w k < (-20)) (h6 : ¬ 20 < mc_w k)
    (hp : post 1 (nI n, top, bot, upd a1 (6 * u + v) 1, upd a2 (6 * u + v) (mc_w k), upd a3 (6 * u + v) (nI t), a4, a5, a6, a7)) :
    wpX_arc post (nI n, top, bot, a1, a2, a3, a4, a5, a6, a7) (nI u) (nI v) (mc_w k) (nI t) := by
  unfold wpX_arc
  dsimp only
  refine mc_isY hn hu (br_f (by decide) (mc_isY hn hv (br_f (by decide) (br_f h5 (br_f h6 (br_f (nI_nlt (b := 1) t1 (by omega)) (br_t (nI_le (b := 5) (by omega) (by decide)) ?_)))))))
  rw [mc_ix, nI_clamp (show 6 * u + v < 2 ^ 31 by omega), mc_w8 k hk, mc_t8 t t6]
  exact ⟨pk_in (6 * u + v) 36 (by omega), nm_e ⟨pk_in (6 * u + v) 36 (by omega), nm_e ⟨pk_in (6 * u + v) 36 (by omega), nm_e hp⟩⟩⟩
/-- points, held between 1 and 6 -/
def mc_cl (x0 : Int32) (n : Nat) : Prop := (1 ≤ x0 ∧ x0 ≤ 6 ∧ x0 = nI n) ∨ (1 ≤ x0 ∧ ¬ x0 ≤ 6 ∧ n = 6) ∨ (¬ 1 ≤ x0 ∧ n = 1)
theorem mc_init {post : St2 → Prop} {x0 : Int32} (h : mc_cl x0 n) (hp : post (nI n, 0, 0, (fun _ => 0), (fun _ => 0), (fun _ => 0), (fun _ => 0), (fun _ => 0), (fun _ => 0), (fun _ => 0))) : wpX_init post 7 168 (0, 0, 0) x0 := by
  refine ⟨by decide, by decide, by decide, by decide, by decide, by decide, by decide, by decide, by decide, by decide, by decide, by decide, by decide, by decide, ?_⟩
  rcases h with ⟨c1, c2, e⟩ | ⟨c1, c2, e⟩ | ⟨c1, e⟩
  · rw [← e] at hp
    exact br_t c1 (br_t c2 hp)
  · subst e
    exact br_t c1 (br_f c2 hp)
  · subst e
    exact br_f c1 hp
end
end
section
section
variable {n K u v k t mc ms kc ks : Nat} {a1 a2 a3 a6 a7 : Nat → Int32} {a4 a5 : Nat → Int64} {top bot : Int64} {post : Int32 → St0 → Prop} {x0 x1 x2 x3 x4 x5 x7 x8 x9 : Int32}
/-- cut answers r, whatever else the state holds -/
def mc_cut (n : Nat) (a1 a2 a3 : Nat → Int32) (x1 x2 r : Int32) : Prop := ∀ (Q : Int32 → St2 → Prop) (top bot : Int64) (a4 a5 : Nat → Int64) (a6 a7 : Nat → Int32), (∀ c1, Q r (nI n, top, bot, c1, a2, a3, a4, a5, a6, a7)) → wpX_cut Q (nI n, top, bot, a1, a2, a3, a4, a5, a6, a7) x1 x2
theorem mc_265 {z : Int32} (hc : mc_cut n a1 a2 a3 x1 x2 x7) (hp : post 1 ()) : wL_lawOf_265 post mc ms x1 x2 x7 z z kc ks (nI n) top bot a1 a2 a3 a4 a5 a6 a7 := by
  unfold wL_lawOf_265
  exact br_t rfl (hc _ _ _ _ _ _ _ (fun c1 => br_t rfl hp))
theorem mc_264 (hc : mc_cut n a1 a2 a3 x1 x2 x7) (hp : post 1 ()) : wL_lawOf_264 post mc ms x1 x2 x7 0 kc ks (nI n) top bot a1 a2 a3 a4 a5 a6 a7 := by
  unfold wL_lawOf_264
  exact mc_265 hc hp
theorem mc_260 (hc : mc_cut n a1 a2 a3 x1 x2 x7) (hp : post 1 ()) : wL_lawOf_260 post mc ms x1 x2 x7 1 kc ks (nI n) top bot a1 a2 a3 a4 a5 a6 a7 := by
  unfold wL_lawOf_260
  exact mc_265 hc hp
/-! no circle -/
theorem mc_220N (h : mc_pN n K u v a1) (hc : mc_cut n a1 a2 a3 x1 x2 x7) (hp : post 1 ()) : wL_lawOf_220 post mc ms x1 x2 x3 x4 x5 x7 0 0 0 kc ks (nI n) top bot a1 a2 a3 a4 a5 a6 a7 := by
  unfold wL_lawOf_220
  refine br_t rfl (mc_stN h (fun c => ?_) (fun c1 c2 => ?_) (fun c1 c2 b5 b6 => ?_))
  · exact br_t c (mc_264 hc hp)
  · exact br_f c1 (br_t c2 (mc_264 hc hp))
  · exact br_f c1 (br_f c2 (br_t rfl (mc_260 hc hp)))
theorem mc_198N (h : mc_pN n K u v a1) (hc : mc_cut n a1 a2 a3 x1 x2 x7) (hp : post 1 ()) : wL_lawOf_198 post mc ms x1 x2 x3 x4 x5 x7 0 (-1000) (-1000) kc ks (nI n) top bot a1 a2 a3 a4 a5 a6 a7 := by
  unfold wL_lawOf_198
  exact br_t rfl (mc_mpN h (fun b4 => br_t rfl (mc_220N h hc hp)))
theorem mc_172N (h : mc_pN n K u v a1) (hc : mc_cut n a1 a2 a3 x1 x2 x7) (hp : post 1 ()) : wL_lawOf_172 post mc ms x1 x2 x3 x4 x5 x7 0 x9 (-1000) (-1000) kc ks (nI n) top bot a1 a2 a3 a4 a5 a6 a7 := by
  unfold wL_lawOf_172
  exact br_t rfl (mc_rbN h (fun b5 b6 => br_t rfl (mc_198N h hc hp)))
/-! one loop -/
theorem mc_220C (h : mc_pC n K u k t a1 a2 a3) (hc : mc_cut n a1 a2 a3 x1 x2 x7) (hp : post 1 ()) : wL_lawOf_220 post mc ms x1 x2 (mc_w k) (nI t) x5 x7 1 ((1 : Int32) <<< (nI u &&& 31)) ((1 : Int32) <<< (nI u &&& 31)) kc ks (nI n) top bot a1 a2 a3 a4 a5 a6 a7 := by
  unfold wL_lawOf_220
  refine br_t rfl (mc_stC h (fun c => ?_) (fun c1 c2 => ?_) (fun c1 c2 c3 b5 b6 => ?_) (fun c1 c2 c3 b5 b6 => ?_))
  · exact br_t c (mc_264 hc hp)
  · exact br_f c1 (br_t c2 (mc_264 hc hp))
  · exact br_f c1 (br_f c2 (br_f (by decide) (br_t c3 (mc_264 hc hp))))
  · exact br_f c1 (br_f c2 (br_f (by decide) (br_f c3 (mc_260 hc hp))))
theorem mc_198C {z : Int32} (h : mc_pC n K u k t a1 a2 a3) (hc : mc_cut n a1 a2 a3 (nI u) x2 x7) (hp : post 1 ()) : wL_lawOf_198 post mc ms (nI u) x2 (mc_w k) (nI t) x5 x7 1 z z kc ks (nI n) top bot a1 a2 a3 a4 a5 a6 a7 := by
  unfold wL_lawOf_198
  exact br_t rfl (mc_mpC h (fun b4 b5 b6 b7 => br_f (by decide) (mc_220C h hc hp)))
theorem mc_172C (h : mc_pC n K u k t a1 a2 a3) (hc : mc_cut n a1 a2 a3 (nI u) x2 x7) (h9 : ¬ x9 = 0) (e9 : (lN t / mc_g k t).toInt32 = nI t / x9) (hp : post 1 ()) : wL_lawOf_172 post mc ms (nI u) x2 (mc_w k) (nI t) x5 x7 1 x9 (mc_w k) (mc_w k) kc ks (nI n) top bot a1 a2 a3 a4 a5 a6 a7 := by
  unfold wL_lawOf_172
  refine br_t rfl (mc_rbC h (fun b5 b6 => br_f (by decide) ⟨h9, ?_⟩))
  rw [e9]
  exact mc_198C h hc hp
/-! the object is made, the arc is put or not -/
theorem mc_126A (hn1 : 1 ≤ n) (hn : n ≤ 6) (h : mc_cl x0 n) (hq : ¬ mc_put n x1 x2 x3 x4) (hp : post 1 ()) : wL_lawOf_126 post 8 178 x0 x1 x2 x3 x4 x5 0 0 x9 0 0 := by
  unfold wL_lawOf_126
  refine ⟨by decide, by decide, 7, 168, by decide, by decide, mc_init h (mc_arcN hq (br_t rfl ?_))⟩
  have hN : mc_pN n 36 0 0 (fun _ => 0) := ⟨hn1, hn, by decide, by decide, fun _ _ _ => rfl, fun z => absurd z (by decide), fun z => absurd z (by decide), fun z => absurd z (by decide)⟩
  exact mc_mtN hN (fun b4 => br_t rfl (mc_172N hN (fun Q _ _ _ _ _ _ g => mc_cutN hn (fun _ _ => rfl) (g _)) hp))
theorem mc_126B (hn1 : 1 ≤ n) (hn : n ≤ 6) (h : mc_cl x0 n) (hu : u < n) (hv : v < n) (huv : u ≠ v) (hk : k < 41) (t1 : 1 ≤ t) (t6 : t < 6) (h5 : ¬ mc_w k < (-20)) (h6 : ¬ 20 < mc_w k) (hp : post 1 ()) : wL_lawOf_126 post 8 178 x0 (nI u) (nI v) (mc_w k) (nI t) x5 1 0 x9 0 0 := by
  unfold wL_lawOf_126
  refine ⟨by decide, by decide, 7, 168, by decide, by decide, mc_init h (mc_arcY hn hu hv hk t1 t6 h5 h6 (br_t rfl ?_))⟩
  have hY : ¬ upd (fun _ => 0) (6 * u + v) 1 (6 * u + v) = 0 := by
    rw [pk_us]
    decide
  have hN : mc_pN n (6 * u + v) u v (upd (fun _ => 0) (6 * u + v) 1) := ⟨hn1, hn, by omega, by omega, fun _ _ z => by rw [pk_un z], fun _ => hY, fun _ => rfl, fun _ => ⟨huv, by omega⟩⟩
  exact mc_mtN hN (fun b4 => br_t rfl (mc_172N hN (fun Q _ _ _ _ _ _ g => mc_cutY hn hu hv hY g) hp))
theorem mc_126C (hn1 : 1 ≤ n) (hn : n ≤ 6) (h : mc_cl x0 n) (hu : u < n) (hk : k < 41) (t1 : 1 ≤ t) (t6 : t < 6) (h5 : ¬ mc_w k < (-20)) (h6 : ¬ 20 < mc_w k) (hp : post 1 ()) (h9 : ¬ x9 = 0) (e9 : (lN t / mc_g k t).toInt32 = nI t / x9) : wL_lawOf_126 post 8 178 x0 (nI u) (nI u) (mc_w k) (nI t) x5 1 1 x9 0 0 := by
  unfold wL_lawOf_126
  refine ⟨by decide, by decide, 7, 168, by decide, by decide, mc_init h (mc_arcY hn hu hu hk t1 t6 h5 h6 (br_t rfl ?_))⟩
  have hY : ¬ upd (fun _ => 0) (6 * u + u) 1 (6 * u + u) = 0 := by
    rw [pk_us]
    decide
  have hC : mc_pC n (6 * u + u) u k t (upd (fun _ => 0) (6 * u + u) 1) (upd (fun _ => 0) (6 * u + u) (mc_w k)) (upd (fun _ => 0) (6 * u + u) (nI t)) := ⟨hn1, hn, hu, rfl, hk, t1, t6, fun _ _ z => by rw [pk_un z], fun _ => hY, pk_us, pk_us⟩
  exact mc_mtC hC (fun b4 => br_f (by decide) (mc_172C hC (fun Q _ _ _ _ _ _ g => mc_cutY hn hu hu hY g) h9 e9 hp))
/-! the law's divisor -/
theorem mc_89N (H : ∀ c, wL_lawOf_126 post mc ms x0 x1 x2 x3 x4 x5 x7 x8 c kc ks) : wL_lawOf_89 post mc ms x0 x1 x2 x3 x4 x5 x7 x8 kc ks := by
  have h109 : wL_lawOf_109 post mc ms x0 x1 x2 x3 x4 x5 x7 x8 kc ks := by
    have h125 : wL_lawOf_125 post mc ms x0 x1 x2 x3 x4 x5 x7 x8 kc ks := by
      unfold wL_lawOf_125
      exact H 1
    unfold wL_lawOf_109
    exact br_c (fun _ => ⟨by decide, br_c (fun _ => H 2) (fun _ => h125)⟩) (fun _ => h125)
  unfold wL_lawOf_89
  exact br_c (fun _ => h109) (fun z => ⟨fun e => z (by rw [e]; decide), br_c (fun _ => H x4) (fun _ => h109)⟩)
theorem mc_89C (hk : k < 41) (t1 : 1 ≤ t) (t6 : t < 6) (H : ∀ c, ¬ c = 0 → (lN t / mc_g k t).toInt32 = nI t / c → wL_lawOf_126 post mc ms x0 x1 x2 (mc_w k) (nI t) x5 x7 x8 c kc ks) : wL_lawOf_89 post mc ms x0 x1 x2 (mc_w k) (nI t) x5 x7 x8 kc ks := by
  have h125 : (lN t / mc_g k t).toInt32 = nI t / 1 → wL_lawOf_125 post mc ms x0 x1 x2 (mc_w k) (nI t) x5 x7 x8 kc ks := by
    intro e
    unfold wL_lawOf_125
    exact H 1 (by decide) e
  have h109 : (nI t ≤ 1 ∨ ¬ mc_w k - mc_w k / nI t * nI t = 0) → wL_lawOf_109 post mc ms x0 x1 x2 (mc_w k) (nI t) x5 x7 x8 kc ks := by
    intro hq
    unfold wL_lawOf_109
    refine br_c (fun e4 => ⟨by decide, br_c (fun z => H 2 (by decide) ?_) (fun z => h125 ?_)⟩) (fun e4 => h125 ?_)
    · have e : t = 4 := (nI_eq (b := 4) (by omega) (by decide)).mp e4
      subst e
      exact mc_c2 k hk (hq.resolve_left (by decide)) z
    · have e : t = 4 := (nI_eq (b := 4) (by omega) (by decide)).mp e4
      subst e
      exact mc_c3 k hk z
    · exact hq.elim (fun q => mc_c5 t t6 t1 k hk ⟨e4, q⟩) (fun q => mc_c4 t t6 t1 k hk ⟨e4, q⟩)
  unfold wL_lawOf_89
  exact br_c (fun z => h109 (Or.inl z)) (fun z => ⟨nI_ne0 (by omega) (by omega), br_c (fun g => H (nI t) (nI_ne0 (by omega) (by omega)) (mc_c1 t t6 t1 k hk z g)) (fun g => h109 (Or.inr g))⟩)
theorem mc_21 (hn1 : 1 ≤ n) (hn : n ≤ 6) (h : mc_cl x0 n) (hp : post 1 ()) : wL_lawOf_21 post 8 178 x0 x1 x2 x3 x4 x5 (nI n) 0 0 := by
  by_cases hq : mc_put n x1 x2 x3 x4
  · obtain ⟨c1, c2, c3, c4, c5, c6, c7, c8⟩ := hq
    unfold wL_lawOf_21
    refine br_f c1 (br_f c2 (br_f c3 (br_f c4 (br_f c5 (br_f c6 (br_f c7 (br_f c8 ?_)))))))
    obtain ⟨u, hu, e1⟩ : ∃ u, u < n ∧ x1 = nI u := ((pk_ix x1 (show n < 2 ^ 31 by omega)).resolve_left c1).resolve_left c2
    obtain ⟨v, hv, e2⟩ : ∃ v, v < n ∧ x2 = nI v := ((pk_ix x2 (show n < 2 ^ 31 by omega)).resolve_left c3).resolve_left c4
    obtain ⟨k, hk, e3⟩ := mc_wOf c5 c6
    have c70 : ¬ x4 < 0 := fun z => c7 (Int32.lt_trans z (by decide))
    obtain ⟨t, ht, e4⟩ := nI_of2 (M := 5) (n := 5) rfl c70 (Int32.not_lt.mp c8)
    subst e1 e2 e3 e4
    have t1 : 1 ≤ t := by
      rcases Nat.lt_or_ge t 1 with z | z
      · exact absurd (nI_lt (b := 1) z (by decide)) c7
      · exact z
    have t6 : t < 6 := by omega
    unfold wL_lawOf_72
    refine br_f (by decide) (br_c (fun e => ?_) (fun e => ?_))
    · have ev : u = v := (nI_eq (by omega) (by omega)).mp e
      subst ev
      exact mc_89C hk t1 t6 (fun c h9 e9 => mc_126C hn1 hn h hu hk t1 t6 c5 c6 hp h9 e9)
    · have ev : u ≠ v := fun z => e (by rw [z])
      unfold wL_lawOf_88
      exact mc_89N (fun c => mc_126B hn1 hn h hu hv ev hk t1 t6 c5 c6 hp)
  · have h71 : wL_lawOf_71 post 8 178 x0 x1 x2 x3 x4 x5 0 0 := by
      unfold wL_lawOf_71 wL_lawOf_72
      refine br_t rfl ?_
      unfold wL_lawOf_88
      exact mc_89N (fun c => mc_126A hn1 hn h hq hp)
    unfold wL_lawOf_21
    exact br_c (fun _ => h71) (fun c1 => br_c (fun _ => h71) (fun c2 => br_c (fun _ => h71) (fun c3 => br_c (fun _ => h71) (fun c4 => br_c (fun _ => h71) (fun c5 => br_c (fun _ => h71) (fun c6 => br_c (fun _ => h71) (fun c7 => br_c (fun _ => h71) (fun c8 => absurd ⟨c1, c2, c3, c4, c5, c6, c7, c8⟩ hq))))))))
theorem mc_lawOf (hp : post 1 ()) : wpL_lawOf post 8 178 () x0 x1 x2 x3 x4 x5 := by
  unfold wpL_lawOf
  refine br_c (fun c1 => br_c (fun c2 => ?_) (fun c2 => ?_)) (fun c1 => ?_)
  · have c0 : ¬ x0 < 0 := fun z => absurd (Int32.lt_of_lt_of_le z (Int32.le_trans (show (0 : Int32) ≤ 1 by decide) c1)) Int32.lt_irrefl
    obtain ⟨n, hn, e⟩ := nI_of2 (M := 6) (n := 6) rfl c0 c2
    have hcl : mc_cl x0 n := Or.inl ⟨c1, c2, e⟩
    have n1 : 1 ≤ n := by
      rcases Nat.lt_or_ge n 1 with z | z
      · rw [e] at c1
        exact absurd c1 (nI_ge (b := 1) z (by decide))
      · exact z
    have g := mc_21 (x1 := x1) (x2 := x2) (x3 := x3) (x4 := x4) (x5 := x5) n1 hn hcl hp
    rw [← e] at g
    exact g
  · exact mc_21 (n := 6) (by decide) (by decide) (Or.inr (Or.inl ⟨c1, c2, rfl⟩)) hp
  · exact mc_21 (n := 1) (by decide) (by decide) (Or.inr (Or.inr ⟨c1, rfl⟩)) hp
theorem mc_cell {post : Int32 → Prop} {L : Nat} {xs : Nat → Int32} (hL : L ≤ 6) (i : Nat) (hi : i < 6) (h : ∀ r, post r) : wpL_cellAt post L xs () (nI i) :=
  pk_le L i (fun _ => h _) (fun z => ⟨pk_in i L z, h _⟩)
end
theorem i_vc (xs : Nat → Int32) (L : Nat) (hL : L ≤ 6) : wpL_law (fun r => r = 1) L xs := by
  unfold wpL_law
  exact mc_cell hL 0 (by decide) (fun r1 => mc_cell hL 1 (by decide) (fun r2 => mc_cell hL 2 (by decide) (fun r3 => mc_cell hL 3 (by decide) (fun r4 => mc_cell hL 4 (by decide) (fun r5 => mc_cell hL 5 (by decide) (fun r6 => ⟨8, 178, by decide, by decide, mc_lawOf rfl⟩))))))
end
