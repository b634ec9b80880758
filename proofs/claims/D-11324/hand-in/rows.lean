section
/-! ===== the pure picture: c counts, K what is known, G which states are good; and what the questions compute of it ===== -/
/-- n is taken to a literal before f gets it -/
def cw_fc {α : Type} (n : Nat) (f : Nat → α) : α := match n with
  | 0 => f 0
  | k + 1 => f (k + 1)
theorem cw_fc_e {α : Type} (n : Nat) (f : Nat → α) : cw_fc n f = f n := by
  cases n <;> rfl
def cw_c (p q u v : Nat) (R : Nat) : Nat := if R = p then u else if R = q then v else 0
def cw_K0 (R k Q : Nat) : Nat := if R = Q then k else 0
def cw_K1 (p q b a : Nat) (R k Q : Nat) : Nat := if R = Q then k else if R = q ∧ k = a + 1 ∧ Q = p then b + 1 else 0
def cw_G (p q b a g : Nat) (R k : Nat) : Nat := if R = p ∧ k = b + 1 then 1 else if R = q ∧ k = a + 1 then g else 0
/-- thirdStates: d states from k on -/
def cw_third (K : Nat → Nat → Nat → Nat) (i j : Nat) : Nat → Nat → Nat
  | 0, _ => 0
  | d + 1, k => (if K 2 k 0 ≤ i ∧ K 2 k 1 ≤ j then 1 else 0) + cw_third K i j d (k + 1)
def cw_thirdS (c : Nat → Nat) (K : Nat → Nat → Nat → Nat) (i j : Nat) : Nat := cw_fc (if K 0 i 2 ≤ K 1 j 2 then K 1 j 2 else K 0 i 2) (fun l => cw_third K i j (c 2 + 1 - l) l)
def cw_row (c : Nat → Nat) (K : Nat → Nat → Nat → Nat) (i : Nat) : Nat → Nat → Nat
  | 0, _ => 0
  | d + 1, j => (if K 0 i 1 ≤ j ∧ K 1 j 0 ≤ i then cw_thirdS c K i j else 0) + cw_row c K i d (j + 1)
def cw_cuts (c : Nat → Nat) (K : Nat → Nat → Nat → Nat) : Nat → Nat → Nat
  | 0, _ => 0
  | d + 1, i => cw_row c K i (c 1 + 1) 0 + cw_cuts c K d (i + 1)
/-- neededState -/
def cw_nl (G : Nat → Nat → Nat) (I : Nat → Bool) (p : Nat) : Nat → Nat → Nat
  | 0, k => k
  | d + 1, k => if I p = true ∧ G p k = 0 then cw_nl G I p d (k + 1) else k
def cw_mx (K : Nat → Nat → Nat → Nat) (ct : Nat → Nat) (p q k : Nat) : Nat := if K q (ct q) p ≤ k then k else K q (ct q) p
def cw_need (c : Nat → Nat) (K : Nat → Nat → Nat → Nat) (G : Nat → Nat → Nat) (I : Nat → Bool) (ct : Nat → Nat) (p : Nat) : Nat := cw_fc (cw_mx K ct p 2 (cw_mx K ct p 1 (cw_mx K ct p 0 (ct p)))) (fun k => cw_nl G I p (c p + 1 - k) k)
def cw_up (ct : Nat → Nat) (p k : Nat) (R : Nat) : Nat := if R = p then k else ct R
/-- findLeast: one round, from process p on; all rounds -/
def cw_in (c : Nat → Nat) (K : Nat → Nat → Nat → Nat) (G : Nat → Nat → Nat) (I : Nat → Bool) : Nat → Nat → Bool → (Nat → Nat) → Option (Bool × (Nat → Nat))
  | 0, _, g, ct => some (g, ct)
  | d + 1, p, g, ct => cw_fc (cw_need c K G I ct p) (fun k => if k ≤ c p then cw_in c K G I d (p + 1) (g || decide (ct p < k)) (cw_up ct p k) else none)
def cw_out (c : Nat → Nat) (K : Nat → Nat → Nat → Nat) (G : Nat → Nat → Nat) (I : Nat → Bool) : Nat → Bool → (Nat → Nat) → Option (Nat → Nat)
  | 0, _, ct => some ct
  | _ + 1, false, ct => some ct
  | n + 1, true, ct => (cw_in c K G I 3 0 false ct).bind (fun r => cw_out c K G I n r.1 r.2)
/-! the plain law: what the questions compute on the law's pictures, 96 of them -/
def cw_I2 (p q : Nat) (P : Nat) : Bool := decide (P = p) || decide (P = q)
def cw_I1 (p : Nat) (P : Nat) : Bool := decide (P = p)
set_option maxRecDepth 100000 in
theorem cw_d1 : ∀ p, p < 3 → ∀ q, q < 3 → p ≠ q → ∀ b, b < 4 → ∀ a, a < 4 → cw_cuts (cw_c p q (b + 1) (a + 1)) (cw_K1 p q b a) (cw_c p q (b + 1) (a + 1) 0 + 1) 0 = (b + 2) * (a + 2) - (b + 1) := by decide +kernel
set_option maxRecDepth 100000 in
theorem cw_d2 : ∀ p, p < 3 → ∀ q, q < 3 → p ≠ q → ∀ b, b < 4 → ∀ a, a < 4 → (cw_out (cw_c p q (b + 1) (a + 1)) (cw_K1 p q b a) (cw_G p q b a 1) (cw_I2 p q) 30 true (fun _ => 0)).isSome = true := by decide +kernel
set_option maxRecDepth 100000 in
theorem cw_d3 : ∀ p, p < 3 → ∀ q, q < 3 → p ≠ q → ∀ b, b < 4 → ∀ a, a < 4 → (cw_out (cw_c p q (b + 1) (a + 1)) (cw_K1 p q b a) (cw_G p q b a 0) (cw_I2 p q) 30 true (fun _ => 0)).isSome = false := by decide +kernel
set_option maxRecDepth 100000 in
theorem cw_d4 : ∀ p, p < 3 → ∀ q, q < 3 → p ≠ q → ∀ b, b < 4 → ∀ a, a < 4 → (cw_out (cw_c p q (b + 1) (a + 1)) (cw_K1 p q b a) (cw_G p q b a 1) (cw_I1 q) 30 true (fun _ => 0)).any (fun ct => decide (ct p = b + 1)) = true := by decide +kernel
set_option maxRecDepth 100000 in
theorem cw_d5 : ∀ p, p < 3 → ∀ q, q < 3 → p ≠ q → ∀ b, b < 4 → ∀ a, a < 4 → (cw_out (cw_c p q (b + 1) (a + 1)) (cw_K1 p q b a) (cw_G p q b a 0) (cw_I1 q) 30 true (fun _ => 0)).isSome = false := by decide +kernel
/-! sets as masks -/
def cw_set (x : Int32) (I : Nat → Bool) : Prop := ∀ P, P < 3 → ((((x.toUInt32 >>> ((nI P).toUInt32 &&& Int32.toUInt32 31)).toInt32) &&& 1) = 0 ↔ I P = false)
theorem cw_s2 : ∀ p, p < 3 → ∀ q, q < 3 → ∀ P, P < 3 → ((((((1 : Int32) <<< (nI p &&& 31)) ||| ((1 : Int32) <<< (nI q &&& 31))).toUInt32 >>> ((nI P).toUInt32 &&& Int32.toUInt32 31)).toInt32 &&& 1) = 0 ↔ cw_I2 p q P = false) := by decide +kernel
theorem cw_s1 : ∀ p, p < 3 → ∀ P, P < 3 → (((((1 : Int32) <<< (nI p &&& 31)).toUInt32 >>> ((nI P).toUInt32 &&& Int32.toUInt32 31)).toInt32 &&& 1) = 0 ↔ cw_I1 p P = false) := by decide +kernel
theorem cw_r2 : ∀ p, p < 3 → ∀ q, q < 3 → ¬ (((1 : Int32) <<< (nI p &&& 31)) ||| ((1 : Int32) <<< (nI q &&& 31))) < 1 ∧ (((1 : Int32) <<< (nI p &&& 31)) ||| ((1 : Int32) <<< (nI q &&& 31))) ≤ 7 := by decide +kernel
theorem cw_r1 : ∀ p, p < 3 → ¬ ((1 : Int32) <<< (nI p &&& 31)) < 1 ∧ ((1 : Int32) <<< (nI p &&& 31)) ≤ 7 ∧ ¬ 7 < ((1 : Int32) <<< (nI p &&& 31)) := by decide +kernel
/-! small rows -/
theorem cw_nf {x : Bool} (h : ¬ x = false) : x = true := by
  cases x
  · exact absurd rfl h
  · rfl
theorem cw_z (s : Nat) : nI s + 0 = nI (s + 0) := nI_add s 0
theorem cw_ix (P k Q : Nat) : ((27 * nI P) + (3 * nI k)) + nI Q = nI (27 * P + 3 * k + Q) := by
  have e27 : (27 : Int32) = nI 27 := rfl
  have e3 : (3 : Int32) = nI 3 := rfl
  rw [e27, e3, pk_mul, pk_mul, nI_add, nI_add]
theorem cw_ixm (P k Q : Nat) : (((27 * nI P) + (3 * nI (k + 1))) - 3) + nI Q = nI (27 * P + 3 * k + Q) := by
  have e27 : (27 : Int32) = nI 27 := rfl
  have e3 : (3 : Int32) = nI 3 := rfl
  rw [e27, e3, pk_mul, pk_mul, nI_add, pk_sub (by omega), nI_add]
  exact congrArg nI (by omega)
theorem cw_ix9 (P k : Nat) : (9 * nI P) + nI k = nI (9 * P + k) := by
  have e9 : (9 : Int32) = nI 9 := rfl
  rw [e9, pk_mul, nI_add]
theorem cw_inj {R k Q P j S : Nat} (hQ : Q < 3) (hS : S < 3) (hk : k ≤ 8) (hj : j ≤ 8) (e : 27 * R + 3 * k + Q = 27 * P + 3 * j + S) : R = P ∧ k = j ∧ Q = S := by
  have e1 : R = P := by omega
  have e2 : k = j := by omega
  exact ⟨e1, e2, by omega⟩
theorem cw_nar {g : Nat} (hg : g ≤ 1) : vp_nar .boolean (nI g) = nI g := by
  have e : g = 0 ∨ g = 1 := by omega
  rcases e with e | e
  · rw [e]; rfl
  · rw [e]; rfl
theorem cw_zero {x : Int32} (h0 : ¬ x < 0) (h1 : ¬ 1 ≤ x) : x = 0 := by
  obtain ⟨j, hj, rfl⟩ := nI_of h0
  have e : j = 0 := by
    rcases Nat.eq_zero_or_pos j with e | e
    · exact e
    · exact absurd (nI_le (a := 1) (b := j) e hj) h1
  rw [e]
  rfl
/-! bounds of the pictures -/
def cw_bd (c : Nat → Nat) (K : Nat → Nat → Nat → Nat) (G : Nat → Nat → Nat) : Prop := (∀ P, P < 3 → c P ≤ 8) ∧ (∀ P k Q, P < 3 → k ≤ c P → Q < 3 → K P k Q ≤ c Q) ∧ (∀ P k, G P k ≤ 1)
theorem cw_bdF {p q b a g : Nat} (hpq : p ≠ q) (hb : b < 4) (ha : a < 4) (hg : g ≤ 1) : cw_bd (cw_c p q (b + 1) (a + 1)) (cw_K1 p q b a) (cw_G p q b a g) := by
  refine ⟨fun P _ => ?_, fun P k Q _ hk _ => ?_, fun P k => ?_⟩
  · unfold cw_c
    split
    · omega
    · split <;> omega
  · unfold cw_K1
    split
    · rename_i e
      rw [← e]
      exact hk
    · split
      · rename_i e
        rw [e.2.2]
        unfold cw_c
        rw [if_pos rfl]
        exact Nat.le_refl _
      · exact Nat.zero_le _
  · unfold cw_G
    split
    · exact Nat.le_refl _
    · split
      · exact hg
      · exact Nat.zero_le _
theorem cw_nl_le {G : Nat → Nat → Nat} {I : Nat → Bool} {p : Nat} : ∀ d k, cw_nl G I p d k ≤ k + d
  | 0, k => Nat.le_refl _
  | d + 1, k => by
    unfold cw_nl
    split
    · have := cw_nl_le (G := G) (I := I) (p := p) d (k + 1)
      omega
    · omega
theorem cw_mx_le {K : Nat → Nat → Nat → Nat} {ct : Nat → Nat} {p q k n : Nat} (hk : k ≤ n) (hK : K q (ct q) p ≤ n) : cw_mx K ct p q k ≤ n := by
  unfold cw_mx
  split
  · exact hk
  · exact hK
end
section
/-! ===== the questions, over any state that matches the picture ===== -/
def cw_ok (c : Nat → Nat) (K : Nat → Nat → Nat → Nat) (G : Nat → Nat → Nat) (a1 a2 a3 : Nat → Int32) : Prop :=
  (∀ P, P < 3 → a1 P = nI (c P)) ∧ (∀ P k Q, P < 3 → k ≤ c P → Q < 3 → a3 (27 * P + 3 * k + Q) = nI (K P k Q)) ∧ (∀ P k, P < 3 → k ≤ c P → a2 (9 * P + k) = nI (G P k))
/-- the cut -/
def cw_ct (ct c : Nat → Nat) (a7 : Nat → Int32) : Prop := ∀ P, P < 3 → a7 P = nI (ct P) ∧ ct P ≤ c P
def cw_b (g : Bool) : Int32 := match g with
  | true => 1
  | false => 0
section
variable {m : Int32} {a1 a2 a3 a4 a5 a6 a7 a8 a9 : Nat → Int32} {c : Nat → Nat} {K : Nat → Nat → Nat → Nat} {G : Nat → Nat → Nat} {I : Nat → Bool}
theorem cw_ip {post : Int32 → Prop} {u : St0} (P : Nat) (hP : P < 3) (hp : post 1) : wpX_isProcess post u (nI P) :=
  pk_lt P 0 (fun z => absurd z (by omega)) (fun _ => pk_lt 2 P (fun z => absurd z (by omega)) (fun _ => hp))
theorem cw_kb0 {post : Int32 → Prop} {x y z : Int32} (P k Q : Nat) (hP : P < 3) (hk : k ≤ 8) (hQ : Q < 3) (hp : post (a3 (27 * P + 3 * k + Q))) (hx : x = nI P := by rfl) (hy : y = nI k := by rfl) (hz : z = nI Q := by rfl) : wpX_knownBy post (m, a1, a2, a3, a4, a5, a6, a7, a8, a9) x y z := by
  subst hx hy hz
  unfold wpX_knownBy
  dsimp only
  rw [cw_ix, nI_clamp (show 27 * P + 3 * k + Q < 2 ^ 31 by omega)]
  exact ⟨vp_in_nI (by omega) (by omega), hp⟩
theorem cw_kb {post : Int32 → Prop} {x y z : Int32} (h : cw_ok c K G a1 a2 a3) (hb : cw_bd c K G) (P k Q : Nat) (hP : P < 3) (hk : k ≤ c P) (hQ : Q < 3) (hp : post (nI (K P k Q))) (hx : x = nI P := by rfl) (hy : y = nI k := by rfl) (hz : z = nI Q := by rfl) : wpX_knownBy post (m, a1, a2, a3, a4, a5, a6, a7, a8, a9) x y z := by
  refine cw_kb0 P k Q hP (Nat.le_trans hk (hb.1 P hP)) hQ ?_ hx hy hz
  rw [h.2.1 P k Q hP hk hQ]
  exact hp
theorem cw_kn {post : Int32 → Prop} {y : Int32} (h : cw_ok c K G a1 a2 a3) (hb : cw_bd c K G) (P k Q : Nat) (hP : P < 3) (hk : k ≤ c P) (hQ : Q < 3) (hp : post (nI (K P k Q))) (hy : y = nI k := by rfl) : wpX_knows post (m, a1, a2, a3, a4, a5, a6, a7, a8, a9) (nI P) y (nI Q) := by
  subst hy
  have h8 := hb.1 P hP
  unfold wpX_knows
  dsimp only
  refine cw_ip P hP (br_f (by decide) (cw_ip Q hQ (br_f (by decide) (pk_lt k 0 (fun z => absurd z (by omega)) (fun _ => ⟨pk_in P 3 hP, ?_⟩)))))
  rw [nI_clamp (show P < 2 ^ 31 by omega)]
  exact pk_le k (c P) (fun _ => cw_kb h hb P k Q hP hk hQ hp) (fun z => absurd z (by omega)) rfl (h.1 P hP)
theorem cw_38 {post : Int32 → Prop} {i j : Nat} (h : cw_ok c K G a1 a2 a3) (hb : cw_bd c K G) (hi : i ≤ 8) (hj : j ≤ 8) : ∀ d k s, k + d = c 2 + 1 → post (nI (s + cw_third K i j d k)) → wX_thirdStates_38 post (nI i) (nI j) m a1 a2 a3 a4 a5 a6 a7 a8 a9 (d + 1) (nI s) (nI k)
  | 0, k, s, e, hp => by
    have h2 := hb.1 2 (by decide)
    exact pk_lt (c 2) k (fun _ => hp) (fun z => absurd z (by omega)) (h.1 2 (by decide))
  | d + 1, k, s, e, hp => by
    have h2 := hb.1 2 (by decide)
    have h0 := hb.1 0 (by decide)
    have h1 := hb.1 1 (by decide)
    have k0 := hb.2.1 2 k 0 (by decide) (by omega) (by decide)
    have k1 := hb.2.1 2 k 1 (by decide) (by omega) (by decide)
    have nx : ∀ t, (if K 2 k 0 ≤ i ∧ K 2 k 1 ≤ j then 1 else 0) = t → wX_thirdStates_38 post (nI i) (nI j) m a1 a2 a3 a4 a5 a6 a7 a8 a9 (d + 1) (nI (s + t)) (nI (k + 1)) := fun t et => cw_38 h hb hi hj d (k + 1) (s + t) (by omega) (by rw [← et, Nat.add_assoc]; exact hp)
    refine pk_lt (c 2) k (fun z => absurd z (by omega)) (fun _ => ?_) (h.1 2 (by decide))
    refine cw_kb h hb 2 k 0 (by decide) (by omega) (by decide) ?_
    refine pk_lt i (K 2 k 0) (fun z => nm_r (cw_z s) (nm_r (nI_1 k) (nx 0 (if_neg (by omega))))) (fun z1 => ?_)
    refine cw_kb h hb 2 k 1 (by decide) (by omega) (by decide) ?_
    exact pk_lt j (K 2 k 1) (fun z => nm_r (cw_z s) (nm_r (nI_1 k) (nx 0 (if_neg (by omega))))) (fun z2 => nm_r (nI_1 s) (nm_r (nI_1 k) (nx 1 (if_pos ⟨z1, z2⟩))))
theorem cw_ts {post : Int32 → Prop} {i j : Nat} (h : cw_ok c K G a1 a2 a3) (hb : cw_bd c K G) (hi : i ≤ c 0) (hj : j ≤ c 1) (hp : post (nI (cw_thirdS c K i j))) : wpX_thirdStates post (m, a1, a2, a3, a4, a5, a6, a7, a8, a9) (nI i) (nI j) := by
  have h0 := hb.1 0 (by decide)
  have h1 := hb.1 1 (by decide)
  have h2 := hb.1 2 (by decide)
  have k0 := hb.2.1 0 i 2 (by decide) hi (by decide)
  have k1 := hb.2.1 1 j 2 (by decide) hj (by decide)
  have A : ∀ l, l ≤ c 2 → (if K 0 i 2 ≤ K 1 j 2 then K 1 j 2 else K 0 i 2) = l → ∃ fu, wX_thirdStates_38 post (nI i) (nI j) m a1 a2 a3 a4 a5 a6 a7 a8 a9 fu 0 (nI l) := by
    intro l hl el
    rw [cw_thirdS, cw_fc_e, el] at hp
    exact ⟨c 2 + 1 - l + 1, cw_38 h hb (by omega) (by omega) (c 2 + 1 - l) l 0 (by omega) (by rw [Nat.zero_add]; exact hp)⟩
  unfold wpX_thirdStates
  dsimp only
  refine cw_kb h hb 0 i 2 (by decide) hi (by decide) ?_
  refine cw_kb h hb 1 j 2 (by decide) hj (by decide) ?_
  exact pk_le (K 0 i 2) (K 1 j 2) (fun z => A _ (by omega) (if_pos z)) (fun z => A _ (by omega) (if_neg (by omega)))
theorem cw_16 {post : Int32 → Prop} {J : Int32 → Int32 → Prop} {i : Nat} (h : cw_ok c K G a1 a2 a3) (hb : cw_bd c K G) (hi : i ≤ c 0) : ∀ d j s, j + d = c 1 + 1 → J (nI (s + cw_row c K i d j)) (nI (i + 1)) → wX_cuts_16 post J (nI i) m a1 a2 a3 a4 a5 a6 a7 a8 a9 (d + 1) (nI s) (nI j)
  | 0, j, s, e, hp => by
    have h1 := hb.1 1 (by decide)
    exact pk_lt (c 1) j (fun _ => nm_r (nI_1 i) hp) (fun z => absurd z (by omega)) (h.1 1 (by decide))
  | d + 1, j, s, e, hp => by
    have h0 := hb.1 0 (by decide)
    have h1 := hb.1 1 (by decide)
    have k0 := hb.2.1 0 i 1 (by decide) hi (by decide)
    have k1 := hb.2.1 1 j 0 (by decide) (by omega) (by decide)
    have nx : ∀ t, (if K 0 i 1 ≤ j ∧ K 1 j 0 ≤ i then cw_thirdS c K i j else 0) = t → wX_cuts_16 post J (nI i) m a1 a2 a3 a4 a5 a6 a7 a8 a9 (d + 1) (nI (s + t)) (nI (j + 1)) := fun t et => cw_16 h hb hi d (j + 1) (s + t) (by omega) (by rw [← et, Nat.add_assoc]; exact hp)
    refine pk_lt (c 1) j (fun z => absurd z (by omega)) (fun _ => ?_) (h.1 1 (by decide))
    refine cw_kb h hb 0 i 1 (by decide) hi (by decide) ?_
    refine pk_lt j (K 0 i 1) (fun z => nm_r (nI_1 j) (nx 0 (if_neg (by omega)))) (fun z1 => ?_)
    refine cw_kb h hb 1 j 0 (by decide) (by omega) (by decide) ?_
    refine pk_lt i (K 1 j 0) (fun z => nm_r (nI_1 j) (nx 0 (if_neg (by omega)))) (fun z2 => ?_)
    refine cw_ts h hb hi (by omega) ?_
    exact nm_r (nI_add s _) (nm_r (nI_1 j) (nx _ (if_pos ⟨z1, z2⟩)))
theorem cw_4 {post : Int32 → Prop} (h : cw_ok c K G a1 a2 a3) (hb : cw_bd c K G) : ∀ d i s, i + d = c 0 + 1 → post (nI (s + cw_cuts c K d i)) → wX_cuts_4 post m a1 a2 a3 a4 a5 a6 a7 a8 a9 (d + 1) (nI s) (nI i)
  | 0, i, s, e, hp => by
    have h0 := hb.1 0 (by decide)
    exact pk_lt (c 0) i (fun _ => hp) (fun z => absurd z (by omega)) (h.1 0 (by decide))
  | d + 1, i, s, e, hp => by
    have h0 := hb.1 0 (by decide)
    refine pk_lt (c 0) i (fun z => absurd z (by omega)) (fun z => ⟨c 1 + 1 + 1, ?_⟩) (h.1 0 (by decide))
    refine cw_16 h hb z (c 1 + 1) 0 s (by omega) ?_
    exact cw_4 h hb d (i + 1) _ (by omega) (by rw [Nat.add_assoc]; exact hp)
theorem cw_cu {post : Int32 → Prop} (h : cw_ok c K G a1 a2 a3) (hb : cw_bd c K G) (hp : post (nI (cw_cuts c K (c 0 + 1) 0))) : wpX_cuts post (m, a1, a2, a3, a4, a5, a6, a7, a8, a9) :=
  ⟨c 0 + 1 + 1, cw_4 h hb (c 0 + 1) 0 0 (by omega) (by rw [Nat.zero_add]; exact hp)⟩
/-! the least good cut -/
theorem cw_51 {post : Int32 → Prop} {x : Int32} {p : Nat} (h : cw_ok c K G a1 a2 a3) (hb : cw_bd c K G) (hs : cw_set x I) (hp3 : p < 3) : ∀ d k, k + d = c p + 1 → post (nI (cw_nl G I p d k)) → wX_neededState_51 post (nI p) x m a1 a2 a3 a4 a5 a6 a7 a8 a9 (d + 1) (nI k)
  | 0, k, e, hp => by
    have h8 := hb.1 p hp3
    refine ⟨pk_in p 3 hp3, ?_⟩
    rw [nI_clamp (show p < 2 ^ 31 by omega)]
    exact pk_lt (c p) k (fun _ => hp) (fun z => absurd z (by omega)) (h.1 p hp3)
  | d + 1, k, e, hp => by
    have h8 := hb.1 p hp3
    have hG := hb.2.2 p k
    have hp' : post (nI (if I p = true ∧ G p k = 0 then cw_nl G I p d (k + 1) else k)) := hp
    refine ⟨pk_in p 3 hp3, ?_⟩
    rw [nI_clamp (show p < 2 ^ 31 by omega)]
    refine pk_lt (c p) k (fun z => absurd z (by omega)) (fun z => ?_) (h.1 p hp3)
    refine ek_if (hs p hp3) (fun hI => ?_) (fun hI => ⟨?_, ?_⟩)
    · rw [if_neg (fun t => Bool.false_ne_true (hI.symm.trans t.1))] at hp'
      exact hp'
    · rw [cw_ix9]
      exact vp_in_nI (by omega) (by omega)
    · rw [cw_ix9, nI_clamp (show 9 * p + k < 2 ^ 31 by omega)]
      refine pk_eq (G p k) 0 (fun hg => nm_r (nI_1 k) (cw_51 h hb hs hp3 d (k + 1) (by omega) ?_)) (fun hg => ?_) (h.2.2 p k hp3 z)
      · rw [if_pos ⟨cw_nf hI, hg⟩] at hp'
        exact hp'
      · rw [if_neg (fun t => hg t.2)] at hp'
        exact hp'
theorem cw_10s {post : Int32 → Prop} {x : Int32} {p q k n : Nat} {ct : Nat → Nat} (h : cw_ok c K G a1 a2 a3) (hb : cw_bd c K G) (h7 : cw_ct ct c a7) (hp3 : p < 3) (hq : q < 3) (hk : k ≤ 8) (hn : wX_neededState_10 post (nI p) x m a1 a2 a3 a4 a5 a6 a7 a8 a9 n (nI (cw_mx K ct p q k)) (nI (q + 1))) : wX_neededState_10 post (nI p) x m a1 a2 a3 a4 a5 a6 a7 a8 a9 (n + 1) (nI k) (nI q) := by
  have hc := hb.1 p hp3
  have h7q := h7 q hq
  have hK := hb.2.1 q (ct q) p hq h7q.2 hp3
  unfold cw_mx at hn
  refine pk_le 3 q (fun z => absurd z (by omega)) (fun _ => ⟨pk_in q 3 hq, ?_⟩)
  rw [nI_clamp (show q < 2 ^ 31 by omega), h7q.1]
  refine cw_kb h hb q (ct q) p hq h7q.2 hp3 ?_
  refine pk_le (K q (ct q) p) k (fun z => ?_) (fun z => ?_)
  · rw [if_pos z] at hn
    exact nm_r (nI_1 q) hn
  · rw [if_neg (by omega)] at hn
    exact nm_r (nI_1 q) hn
theorem cw_nd {post : Int32 → Prop} {x : Int32} {p : Nat} {ct : Nat → Nat} (h : cw_ok c K G a1 a2 a3) (hb : cw_bd c K G) (hs : cw_set x I) (h7 : cw_ct ct c a7) (hp3 : p < 3) (hp : cw_need c K G I ct p ≤ c p + 1 → post (nI (cw_need c K G I ct p))) : wpX_neededState post (m, a1, a2, a3, a4, a5, a6, a7, a8, a9) (nI p) x := by
  have h8 := hb.1 p hp3
  have k0 : ct p ≤ c p := (h7 p hp3).2
  have k1 := cw_mx_le (q := 0) k0 (hb.2.1 0 (ct 0) p (by decide) (h7 0 (by decide)).2 hp3)
  have k2 := cw_mx_le (q := 1) k1 (hb.2.1 1 (ct 1) p (by decide) (h7 1 (by decide)).2 hp3)
  have k3 := cw_mx_le (q := 2) k2 (hb.2.1 2 (ct 2) p (by decide) (h7 2 (by decide)).2 hp3)
  rw [cw_need, cw_fc_e] at hp
  unfold wpX_neededState
  refine ⟨pk_in p 3 hp3, nm_r (e' := nI (ct p)) (by rw [nI_clamp (show p < 2 ^ 31 by omega), (h7 p hp3).1]) ⟨0 + 1 + 1 + 1 + 1, ?_⟩⟩
  refine cw_10s (q := 0) h hb h7 hp3 (by decide) (by omega) ?_
  refine cw_10s (q := 1) h hb h7 hp3 (by decide) (by omega) ?_
  refine cw_10s (q := 2) h hb h7 hp3 (by decide) (by omega) ?_
  generalize cw_mx K ct p 2 (cw_mx K ct p 1 (cw_mx K ct p 0 (ct p))) = k at k3 hp
  have hl := cw_nl_le (G := G) (I := I) (p := p) (c p + 1 - k) k
  exact pk_le 3 3 (fun _ => ⟨c p + 1 - k + 1, cw_51 h hb hs hp3 (c p + 1 - k) k (by omega) (hp (by omega))⟩) (fun z => absurd z (by omega))
theorem cw_ctU {ct : Nat → Nat} {p k : Nat} (h7 : cw_ct ct c a7) (hk : k ≤ c p) : cw_ct (cw_up ct p k) c (upd a7 p (nI k)) := by
  intro P hP
  unfold cw_up
  by_cases e : P = p
  · rw [if_pos e, e, pk_us]
    exact ⟨rfl, hk⟩
  · rw [if_neg e, pk_un e]
    exact h7 P hP
theorem cw_39 {post : Int32 → St2 → Prop} {J : Int32 → Int32 → (Nat → Int32) → (Nat → Int32) → (Nat → Int32) → (Nat → Int32) → (Nat → Int32) → (Nat → Int32) → (Nat → Int32) → (Nat → Int32) → (Nat → Int32) → Prop} {x x3 : Int32} (h : cw_ok c K G a1 a2 a3) (hb : cw_bd c K G) (hs : cw_set x I) : ∀ d p g ct a7, p + d = 3 → cw_ct ct c a7 → (cw_in c K G I d p g ct = none → ∀ b7, post 0 (m, a1, a2, a3, a4, a5, a6, b7, a8, a9)) → (∀ g' ct', cw_in c K G I d p g ct = some (g', ct') → ∀ b7, cw_ct ct' c b7 → J (cw_b g') (x3 + 1) a1 a2 a3 a4 a5 a6 b7 a8 a9) → wX_findLeast_39 post J x x3 m (d + 1) (cw_b g) (nI p) a1 a2 a3 a4 a5 a6 a7 a8 a9
  | 0, p, g, ct, a7, e, h7, hf, ht => by
    have e3 : p = 3 := by omega
    rw [e3]
    exact pk_le 3 3 (fun _ => nm_e (ht g ct rfl a7 h7)) (fun z => absurd z (by omega))
  | d + 1, p, g, ct, a7, e, h7, hf, ht => by
    have hp3 : p < 3 := by omega
    have h8 := hb.1 p hp3
    have h70 := h7 p hp3
    have hE : cw_in c K G I (d + 1) p g ct = (if cw_need c K G I ct p ≤ c p then cw_in c K G I d (p + 1) (g || decide (ct p < cw_need c K G I ct p)) (cw_up ct p (cw_need c K G I ct p)) else none) := by
      rw [cw_in, cw_fc_e]
    refine pk_le 3 p (fun z => absurd z (by omega)) (fun _ => ?_)
    refine cw_nd h hb hs h7 hp3 (fun hk1 => ?_)
    generalize cw_need c K G I ct p = k at hE hk1
    refine ⟨pk_in p 3 hp3, ?_⟩
    rw [nI_clamp (show p < 2 ^ 31 by omega)]
    refine pk_le k (c p) (fun hk => ?_) (fun hk => ?_) rfl (h.1 p hp3)
    · rw [if_pos hk] at hE
      have nx : ∀ g', (g || decide (ct p < k)) = g' → wX_findLeast_89 post J (wX_findLeast_39 post J x x3 m (d + 1)) x x3 (nI p) (nI k) (cw_b g') m a1 a2 a3 a4 a5 a6 a7 a8 a9 := by
        intro g' eg
        rw [eg] at hE
        exact ⟨pk_in p 3 hp3, nm_r (e' := upd a7 p (nI k)) (by rw [nI_clamp (show p < 2 ^ 31 by omega)]) (nm_r (nI_1 p) (cw_39 h hb hs d (p + 1) g' (cw_up ct p k) (upd a7 p (nI k)) (by omega) (cw_ctU h7 hk) (fun z => hf (hE.trans z)) (fun g'' ct' z => ht g'' ct' (hE.trans z))))⟩
      cases g with
      | false =>
        refine br_t rfl ⟨pk_in p 3 hp3, ?_⟩
        exact pk_le k (ct p) (fun z => nx false (by rw [decide_eq_false (show ¬ ct p < k by omega)]; rfl)) (fun z => nx true (by rw [decide_eq_true (show ct p < k by omega)]; rfl)) rfl h70.1
      | true => exact br_f (by decide) (nx true rfl)
    · rw [if_neg (by omega)] at hE
      exact hf hE a7
theorem cw_24 {post : Int32 → St2 → Prop} {x : Int32} (h : cw_ok c K G a1 a2 a3) (hb : cw_bd c K G) (hs : cw_set x I) : ∀ n j g ct a7, j + n = 30 → cw_ct ct c a7 → (cw_out c K G I n g ct = none → ∀ b7, post 0 (m, a1, a2, a3, a4, a5, a6, b7, a8, a9)) → (∀ ct', cw_out c K G I n g ct = some ct' → ∀ b7, cw_ct ct' c b7 → post 1 (m, a1, a2, a3, a4, a5, a6, b7, a8, a9)) → wX_findLeast_24 post x m (n + 1) (cw_b g) (nI j) a1 a2 a3 a4 a5 a6 a7 a8 a9
  | 0, j, g, ct, a7, e, h7, hf, ht => by
    have e3 : j = 30 := by omega
    rw [e3]
    exact pk_le 30 30 (fun _ => ht ct (by rw [cw_out]) a7 h7) (fun z => absurd z (by omega))
  | n + 1, j, false, ct, a7, e, h7, hf, ht =>
    pk_le 30 j (fun z => absurd z (by omega)) (fun _ => br_t rfl (ht ct (by rw [cw_out]) a7 h7))
  | n + 1, j, true, ct, a7, e, h7, hf, ht => by
    have hE : cw_out c K G I (n + 1) true ct = (cw_in c K G I 3 0 false ct).bind (fun r => cw_out c K G I n r.1 r.2) := by rw [cw_out]
    refine pk_le 30 j (fun z => absurd z (by omega)) (fun _ => br_f (by decide) ⟨3 + 1, ?_⟩)
    refine cw_39 h hb hs 3 0 false ct a7 (by omega) h7 (fun z => hf (by rw [hE, z]; first | done | rfl)) (fun g' ct' z b7 hb7 => ?_)
    rw [nI_1]
    have hE' : cw_out c K G I (n + 1) true ct = cw_out c K G I n g' ct' := by rw [hE, z]; first | done | rfl
    exact cw_24 h hb hs n (j + 1) g' ct' b7 (by omega) hb7 (fun z' => hf (hE'.trans z')) (fun ct'' z' => ht ct'' (hE'.trans z'))
theorem cw_f2 {post : Int32 → St2 → Prop} {x : Int32} (H : ∀ b7, (∀ P, P < 3 → b7 P = nI 0) → ∃ fu, wX_findLeast_24 post x m fu 1 0 a1 a2 a3 a4 a5 a6 b7 a8 a9) : ∀ d p a7, p + d = 3 → (∀ P, P < p → a7 P = nI 0) → wX_findLeast_2 post x m (d + 1) (nI p) a1 a2 a3 a4 a5 a6 a7 a8 a9
  | 0, p, a7, e, h7 => by
    have e3 : p = 3 := by omega
    rw [e3] at h7 ⊢
    exact pk_le 3 3 (fun _ => H a7 h7) (fun z => absurd z (by omega))
  | d + 1, p, a7, e, h7 => by
    refine pk_le 3 p (fun z => absurd z (by omega)) (fun _ => ⟨pk_in p 3 (by omega), nm_r (e' := upd a7 p (nI 0)) (by rw [nI_clamp (show p < 2 ^ 31 by omega), nI_0]) (nm_r (nI_1 p) (cw_f2 H d (p + 1) _ (by omega) (fun P hP => ?_)))⟩)
    by_cases eq : P = p
    · rw [eq, pk_us]
    · rw [pk_un eq]
      exact h7 P (by omega)
theorem cw_fl {post : Int32 → St2 → Prop} {x : Int32} (h : cw_ok c K G a1 a2 a3) (hb : cw_bd c K G) (hs : cw_set x I) (hf : cw_out c K G I 30 true (fun _ => 0) = none → ∀ b7, post 0 (m, a1, a2, a3, a4, a5, a6, b7, a8, a9)) (ht : ∀ ct', cw_out c K G I 30 true (fun _ => 0) = some ct' → ∀ b7, cw_ct ct' c b7 → post 1 (m, a1, a2, a3, a4, a5, a6, b7, a8, a9)) : wpX_findLeast post (m, a1, a2, a3, a4, a5, a6, a7, a8, a9) x :=
  ⟨3 + 1, cw_f2 (fun b7 h7 => ⟨30 + 1, cw_24 h hb hs 30 0 true (fun _ => 0) b7 (by omega) (fun P hP => ⟨h7 P hP, Nat.zero_le _⟩) hf ht⟩) 3 0 a7 (by omega) (fun P hP => absurd hP (by omega))⟩
theorem cw_po {post : Int32 → St2 → Prop} {x : Int32} (h : cw_ok c K G a1 a2 a3) (hb : cw_bd c K G) (hs : cw_set x I) (h1 : ¬ x < 1) (h7 : x ≤ 7) (hf : cw_out c K G I 30 true (fun _ => 0) = none → ∀ b7, post 0 (m, a1, a2, a3, a4, a5, a6, b7, a8, a9)) (ht : ∀ ct', cw_out c K G I 30 true (fun _ => 0) = some ct' → ∀ b7, post 1 (m, a1, a2, a3, a4, a5, a6, b7, a8, a9)) : wpX_possibly post (m, a1, a2, a3, a4, a5, a6, a7, a8, a9) x :=
  br_f h1 (br_t h7 (cw_fl h hb hs (fun z b7 => br_t rfl (hf z b7)) (fun ct' z b7 _ => br_f (by decide) (ht ct' z b7))))
theorem cw_le {post : Int32 → St2 → Prop} {x : Int32} {p : Nat} (h : cw_ok c K G a1 a2 a3) (hb : cw_bd c K G) (hs : cw_set x I) (h1 : ¬ x < 1) (h7 : ¬ 7 < x) (hp3 : p < 3) (hf : cw_out c K G I 30 true (fun _ => 0) = none → ∀ b7, post (-1) (m, a1, a2, a3, a4, a5, a6, b7, a8, a9)) (ht : ∀ ct', cw_out c K G I 30 true (fun _ => 0) = some ct' → ∀ b7, post (nI (ct' p)) (m, a1, a2, a3, a4, a5, a6, b7, a8, a9)) : wpX_least post (m, a1, a2, a3, a4, a5, a6, a7, a8, a9) x (nI p) :=
  br_f h1 (br_f h7 (cw_ip p hp3 (br_f (by decide) (cw_fl h hb hs (fun z b7 => br_t rfl (hf z b7)) (fun ct' z b7 hb7 => br_f (by decide) ⟨pk_in p 3 hp3, by
    rw [nI_clamp (show p < 2 ^ 31 by omega), (hb7 p hp3).1]
    exact ht ct' z b7⟩)))))
/-! stretches: the set has one process, whose last state alone is good -/
theorem cw_ns {post : Int32 → St2 → Prop} {p : Nat} (h : cw_ok c K G a1 a2 a3) (hb : cw_bd c K G) (hp3 : p < 3) (hz : ∀ k, k < c p → G p k = 0) (hg : G p (c p) = 1) (hp : ∀ b8 b9, post 1 (m, a1, a2, a3, a4, a5, a6, a7, b8, b9)) : ∀ d k, k + d = c p → wX_nextStretch_2 post (nI p) m a1 a2 a3 a4 a5 a6 a7 a8 a9 (d + 1) (nI k)
  | 0, k, e => by
    have h8 := hb.1 p hp3
    have ek : k = c p := by omega
    rw [ek]
    refine ⟨pk_in p 3 hp3, ?_⟩
    rw [nI_clamp (show p < 2 ^ 31 by omega)]
    refine pk_lt (c p) (c p) (fun z => absurd z (by omega)) (fun z => ⟨?_, ?_⟩) (h.1 p hp3)
    · rw [cw_ix9]
      exact vp_in_nI (by omega) (by omega)
    · rw [cw_ix9, nI_clamp (show 9 * p + c p < 2 ^ 31 by omega)]
      refine pk_eq 1 0 (fun z => absurd z (by decide)) (fun _ => ⟨pk_in p 3 hp3, ?_⟩) (by rw [h.2.2 p (c p) hp3 (Nat.le_refl _), hg])
      rw [nI_clamp (show p < 2 ^ 31 by omega)]
      refine pk_le (c p) (c p) (fun _ => ⟨pk_in p 3 hp3, nm_e ⟨0 + 1, ⟨pk_in p 3 hp3, ?_⟩⟩⟩) (fun z => absurd z (by omega)) rfl (h.1 p hp3)
      rw [nI_clamp (show p < 2 ^ 31 by omega)]
      exact pk_le (c p) (c p) (fun _ => ⟨pk_in p 3 hp3, nm_e (hp _ _)⟩) (fun z => absurd z (by omega)) (h.1 p hp3)
  | d + 1, k, e => by
    have h8 := hb.1 p hp3
    refine ⟨pk_in p 3 hp3, ?_⟩
    rw [nI_clamp (show p < 2 ^ 31 by omega)]
    refine pk_lt (c p) k (fun z => absurd z (by omega)) (fun z => ⟨?_, ?_⟩) (h.1 p hp3)
    · rw [cw_ix9]
      exact vp_in_nI (by omega) (by omega)
    · rw [cw_ix9, nI_clamp (show 9 * p + k < 2 ^ 31 by omega)]
      exact pk_eq 0 0 (fun _ => nm_r (nI_1 k) (cw_ns h hb hp3 hz hg hp d (k + 1) (by omega))) (fun z => absurd rfl z) (by rw [h.2.2 p k hp3 (by omega), hz k (by omega)])
theorem cw_te9 {post : Int32 → Prop} {J : Int32 → Prop} {x : Int32} {P : Nat} (hs : cw_set x I) (h1 : ∀ P Q, P < 3 → Q < 3 → I P = true → I Q = true → P = Q) (hP : P < 3) (hJ : J (nI (P + 1))) : ∀ d j, j + d = 3 → wX_tooEarly_9 post J x (nI P) m a1 a2 a3 a4 a5 a6 a7 a8 a9 (d + 1) (nI j)
  | 0, j, e => by
    have e3 : j = 3 := by omega
    rw [e3]
    exact pk_le 3 3 (fun _ => nm_r (nI_1 P) hJ) (fun z => absurd z (by omega))
  | d + 1, j, e => by
    have nx : wX_tooEarly_39 post J (wX_tooEarly_9 post J x (nI P) m a1 a2 a3 a4 a5 a6 a7 a8 a9 (d + 1)) x (nI P) (nI j) m a1 a2 a3 a4 a5 a6 a7 a8 a9 := br_t rfl (nm_r (nI_1 j) (cw_te9 hs h1 hP hJ d (j + 1) (by omega)))
    exact pk_le 3 j (fun z => absurd z (by omega)) (fun _ => pk_eq P j (fun _ => nx) (fun hne => ek_if (hs P hP) (fun _ => nx) (fun i1 => ek_if (hs j (by omega)) (fun _ => nx) (fun i2 => absurd (h1 P j hP (by omega) (cw_nf i1) (cw_nf i2)) hne))))
theorem cw_te2 {post : Int32 → Prop} {x : Int32} (hs : cw_set x I) (h1 : ∀ P Q, P < 3 → Q < 3 → I P = true → I Q = true → P = Q) (hp : post (-1)) : ∀ d j, j + d = 3 → wX_tooEarly_2 post x m a1 a2 a3 a4 a5 a6 a7 a8 a9 (d + 1) (nI j)
  | 0, j, e => by
    have e3 : j = 3 := by omega
    rw [e3]
    exact pk_le 3 3 (fun _ => hp) (fun z => absurd z (by omega))
  | d + 1, j, e =>
    pk_le 3 j (fun z => absurd z (by omega)) (fun _ => ⟨3 + 1, cw_te9 hs h1 (by omega) (cw_te2 hs h1 hp d (j + 1) (by omega)) 3 0 (by omega)⟩)
theorem cw_36 {post : Int32 → St2 → Prop} {x : Int32} (hs : cw_set x I) (h1 : ∀ P Q, P < 3 → Q < 3 → I P = true → I Q = true → P = Q) (hp : post 1 (m, a1, a2, a3, a4, a5, a6, a7, a8, a9)) : wX_stretchesMeet_36 post x (0 + 1 + 1) 1 0 m a1 a2 a3 a4 a5 a6 a7 a8 a9 := by
  refine pk_le 20 0 (fun z => absurd z (by omega)) (fun _ => br_f (by decide) ?_)
  refine ⟨3 + 1, cw_te2 hs h1 ?_ 3 0 (by omega)⟩
  exact br_t (by decide) (br_t rfl (nm_r (e' := nI 1) (by decide) (pk_le 20 1 (fun z => absurd z (by omega)) (fun _ => br_t rfl hp))))
theorem cw_sm2 {post : Int32 → St2 → Prop} {x : Int32} {p : Nat} (h : cw_ok c K G a1 a2 a3) (hb : cw_bd c K G) (hs : cw_set x I) (hp3 : p < 3) (hz : ∀ k, k < c p → G p k = 0) (hg : G p (c p) = 1) (hI : ∀ P, P < 3 → I P = true → P = p) (H : ∀ b8 b9, ∃ fu, wX_stretchesMeet_36 post x fu 1 0 m a1 a2 a3 a4 a5 a6 a7 b8 b9) : ∀ d j a8 a9, j + d = 3 → wX_stretchesMeet_2 post x (d + 1) (nI j) m a1 a2 a3 a4 a5 a6 a7 a8 a9
  | 0, j, a8, a9, e => by
    have e3 : j = 3 := by omega
    rw [e3]
    exact pk_le 3 3 (fun _ => H a8 a9) (fun z => absurd z (by omega))
  | d + 1, j, a8, a9, e => by
    have hj : j < 3 := by omega
    refine pk_le 3 j (fun z => absurd z (by omega)) (fun _ => ek_if (hs j hj) (fun _ => nm_r (nI_1 j) (cw_sm2 h hb hs hp3 hz hg hI H d (j + 1) a8 a9 (by omega))) (fun i1 => ?_))
    have ej := hI j hj (cw_nf i1)
    rw [ej]
    refine ⟨c p + 1, cw_ns h hb hp3 hz hg (fun b8 b9 => ?_) (c p) 0 (by omega)⟩
    exact br_f (by decide) (nm_r (nI_1 p) (cw_sm2 h hb hs hp3 hz hg hI H d (p + 1) b8 b9 (by omega)))
theorem cw_de {post : Int32 → St2 → Prop} {x : Int32} {p : Nat} (h : cw_ok c K G a1 a2 a3) (hb : cw_bd c K G) (hs : cw_set x I) (h1 : ¬ x < 1) (h7 : x ≤ 7) (hp3 : p < 3) (hz : ∀ k, k < c p → G p k = 0) (hg : G p (c p) = 1) (hI : ∀ P, P < 3 → I P = true → P = p) (hp : ∀ b8 b9, post 1 (m, a1, a2, a3, a4, a5, a6, a7, b8, b9)) : wpX_definitely post (m, a1, a2, a3, a4, a5, a6, a7, a8, a9) x :=
  br_f h1 (br_t h7 ⟨3 + 1, cw_sm2 h hb hs hp3 hz hg hI (fun b8 b9 => ⟨0 + 1 + 1, cw_36 hs (fun P Q hP hQ i1 i2 => (hI P hP i1).trans (hI Q hQ i2).symm) (br_f (by decide) (hp b8 b9))⟩) 3 0 a8 a9 (by omega)⟩)
end
end
section
/-! ===== the events ===== -/
section
variable {m : Int32} {a1 a2 a3 a4 a5 a6 a7 a8 a9 : Nat → Int32} {c c' : Nat → Nat} {G : Nat → Nat → Nat}
theorem cw_31 {post : St2 → Prop} {P k : Nat} {A3 : Nat → Int32} (hP : P < 3) (hk : k + 1 ≤ 8)
    (H : ∀ b3, (∀ R k' Q, R < 3 → k' ≤ 8 → Q < 3 → ¬ (R = P ∧ k' = k + 1) → b3 (27 * R + 3 * k' + Q) = A3 (27 * R + 3 * k' + Q)) → (∀ Q, Q < 3 → Q ≠ P → b3 (27 * P + 3 * (k + 1) + Q) = A3 (27 * P + 3 * k + Q)) → b3 (27 * P + 3 * (k + 1) + P) = nI (k + 1) → post (m, a1, a2, b3, a4, a5, a6, a7, a8, a9)) :
    ∀ d i a3, i + d = 3 → (∀ R k' Q, R < 3 → k' ≤ 8 → Q < 3 → ¬ (R = P ∧ k' = k + 1) → a3 (27 * R + 3 * k' + Q) = A3 (27 * R + 3 * k' + Q)) → (∀ Q, Q < i → a3 (27 * P + 3 * (k + 1) + Q) = A3 (27 * P + 3 * k + Q)) → wX_advance_31 post (nI P) (nI (k + 1)) m (d + 1) (nI i) a1 a2 a3 a4 a5 a6 a7 a8 a9
  | 0, i, a3, e, h1, h2 => by
    have e3 : i = 3 := by omega
    rw [e3] at h2 ⊢
    refine pk_le 3 3 (fun _ => ⟨?_, ?_⟩) (fun z => absurd z (by omega))
    · rw [cw_ix]
      exact vp_in_nI (by omega) (by omega)
    · rw [cw_ix, nI_clamp (show 27 * P + 3 * (k + 1) + P < 2 ^ 31 by omega)]
      refine nm_e (H _ (fun R k' Q hR hk' hQ hn => ?_) (fun Q hQ hne => ?_) pk_us)
      · rw [pk_un (fun z => hn ⟨(cw_inj hQ hP hk' hk z).1, (cw_inj hQ hP hk' hk z).2.1⟩)]
        exact h1 R k' Q hR hk' hQ hn
      · rw [pk_un (by omega)]
        exact h2 Q hQ
  | d + 1, i, a3, e, h1, h2 => by
    have hi : i < 3 := by omega
    refine pk_le 3 i (fun z => absurd z (by omega)) (fun _ => ⟨?_, ?_, ?_⟩)
    · rw [cw_ixm]
      exact vp_in_nI (by omega) (by omega)
    · rw [cw_ix]
      exact vp_in_nI (by omega) (by omega)
    · rw [cw_ixm, cw_ix, nI_clamp (show 27 * P + 3 * (k + 1) + i < 2 ^ 31 by omega), nI_clamp (show 27 * P + 3 * k + i < 2 ^ 31 by omega)]
      refine nm_e (nm_r (nI_1 i) (cw_31 hP hk H d (i + 1) _ (by omega) (fun R k' Q hR hk' hQ hn => ?_) (fun Q hQ => ?_)))
      · rw [pk_un (fun z => hn ⟨(cw_inj hQ hi hk' hk z).1, (cw_inj hQ hi hk' hk z).2.1⟩)]
        exact h1 R k' Q hR hk' hQ hn
      · by_cases eq : Q = i
        · rw [eq, pk_us]
          exact h1 P k i hP (by omega) hi (by omega)
        · rw [pk_un (by omega)]
          exact h2 Q (by omega)
theorem cw_adv {post : St2 → Prop} {P g : Nat} (h : cw_ok c cw_K0 G a1 a2 a3) (hc : ∀ R, R < 3 → c R ≤ 8) (hP : P < 3) (h8 : c P < 8) (hg : g ≤ 1) (e1 : c' P = c P + 1) (e2 : ∀ R, R < 3 → R ≠ P → c' R = c R) (e3 : G P (c P + 1) = g)
    (H : ∀ b1 b2 b3, cw_ok c' cw_K0 G b1 b2 b3 → post (m, b1, b2, b3, a4, a5, a6, a7, a8, a9)) : wpX_advance post (m, a1, a2, a3, a4, a5, a6, a7, a8, a9) (nI P) (nI g) := by
  have q1 : a1 P = nI (c P) := h.1 P hP
  unfold wpX_advance
  refine ⟨pk_in P 3 hP, nm_r (e' := nI (c P + 1)) (by rw [nI_clamp (show P < 2 ^ 31 by omega), q1, nI_1]) ⟨pk_in P 3 hP, nm_r (e' := upd a1 P (nI (c P + 1))) (by rw [nI_clamp (show P < 2 ^ 31 by omega)]) ⟨?_, nm_r (e' := upd a2 (9 * P + (c P + 1)) (nI g)) (by rw [cw_ix9, nI_clamp (show 9 * P + (c P + 1) < 2 ^ 31 by omega), cw_nar hg]) ⟨3 + 1, cw_31 (A3 := a3) hP h8 (fun b3 f1 f2 f3 => ?_) 3 0 a3 (by omega) (fun _ _ _ _ _ _ _ => rfl) (fun Q hQ => absurd hQ (by omega))⟩⟩⟩⟩
  · rw [cw_ix9]
    exact vp_in_nI (by omega) (by omega)
  · refine H _ _ b3 ⟨fun R hR => ?_, fun R k Q hR hk hQ => ?_, fun R k hR hk => ?_⟩
    · by_cases e : R = P
      · rw [e, pk_us, e1]
      · rw [pk_un e, e2 R hR e]
        exact h.1 R hR
    · by_cases e : R = P ∧ k = c P + 1
      · rw [e.1, e.2]
        by_cases eq : Q = P
        · rw [eq, f3]
          unfold cw_K0
          rw [if_pos rfl]
        · rw [f2 Q hQ eq, h.2.1 P (c P) Q hP (Nat.le_refl _) hQ]
          unfold cw_K0
          rw [if_neg (fun z => eq z.symm), if_neg (fun z => eq z.symm)]
      · have hk' : k ≤ c R := by
          by_cases eR : R = P
          · rw [eR, e1] at hk
            rw [eR]
            rcases Nat.lt_or_ge k (c P + 1) with z | z
            · omega
            · exact absurd ⟨eR, Nat.le_antisymm hk z⟩ e
          · rw [e2 R hR eR] at hk
            exact hk
        rw [f1 R k Q hR (Nat.le_trans hk' (hc R hR)) hQ e]
        exact h.2.1 R k Q hR hk' hQ
    · by_cases e : R = P ∧ k = c P + 1
      · rw [e.1, e.2, pk_us, e3]
      · have hcR := hc R hR
        have hk' : k ≤ c R := by
          by_cases eR : R = P
          · rw [eR, e1] at hk
            rw [eR]
            rcases Nat.lt_or_ge k (c P + 1) with z | z
            · omega
            · exact absurd ⟨eR, Nat.le_antisymm hk z⟩ e
          · rw [e2 R hR eR] at hk
            exact hk
        have hne : 9 * R + k ≠ 9 * P + (c P + 1) := by
          intro z
          have eR : R = P := by omega
          exact e ⟨eR, by omega⟩
        rw [pk_un hne]
        exact h.2.2 R k hR hk'
theorem cw_st {post : Int32 → St2 → Prop} {P g : Nat} (h : cw_ok c cw_K0 G a1 a2 a3) (hc : ∀ R, R < 3 → c R ≤ 8) (hP : P < 3) (h8 : c P < 8) (hg : g ≤ 1) (e1 : c' P = c P + 1) (e2 : ∀ R, R < 3 → R ≠ P → c' R = c R) (e3 : G P (c P + 1) = g)
    (H : ∀ r b1 b2 b3, cw_ok c' cw_K0 G b1 b2 b3 → post r (m, b1, b2, b3, a4, a5, a6, a7, a8, a9)) : wpX_step post (m, a1, a2, a3, a4, a5, a6, a7, a8, a9) (nI P) (nI g) := by
  unfold wpX_step
  dsimp only
  refine cw_ip P hP (br_f (by decide) ⟨pk_in P 3 hP, ?_⟩)
  rw [nI_clamp (show P < 2 ^ 31 by omega)]
  exact pk_lt (c P) 8 (fun _ => cw_adv h hc hP h8 hg e1 e2 e3 (fun b1 b2 b3 hok => ⟨pk_in P 3 hP, H _ b1 b2 b3 hok⟩)) (fun z => absurd z (by omega)) (h.1 P hP)
theorem cw_sd {post : Int32 → St2 → Prop} {P g : Nat} (h : cw_ok c cw_K0 G a1 a2 a3) (hc : ∀ R, R < 3 → c R ≤ 8) (hP : P < 3) (h8 : c P < 8) (hg : g ≤ 1) (e1 : c' P = c P + 1) (e2 : ∀ R, R < 3 → R ≠ P → c' R = c R) (e3 : G P (c P + 1) = g)
    (H : ∀ b1 b2 b3 b4 b5 b6, cw_ok c' cw_K0 G b1 b2 b3 → b4 0 = nI P → b5 0 = nI (c P + 1) → b6 0 = 0 → post 0 (1, b1, b2, b3, b4, b5, b6, a7, a8, a9)) : wpX_send post (0, a1, a2, a3, a4, a5, a6, a7, a8, a9) (nI P) (nI g) := by
  unfold wpX_send
  dsimp only
  refine cw_ip P hP (br_f (by decide) ⟨pk_in P 3 hP, ?_⟩)
  rw [nI_clamp (show P < 2 ^ 31 by omega)]
  refine pk_lt (c P) 8 (fun _ => cw_adv h hc hP h8 hg e1 e2 e3 (fun b1 b2 b3 hok => ?_)) (fun z => absurd z (by omega)) (h.1 P hP)
  have hb1 : b1 P = nI (c P + 1) := by rw [hok.1 P hP, e1]
  dsimp only
  refine ⟨pk_in 0 24 (by decide), nm_r (e' := upd a4 0 (nI P)) (by rw [sb_cl0]) ⟨pk_in P 3 hP, pk_in 0 24 (by decide), nm_r (e' := upd a5 0 (nI (c P + 1))) (by rw [sb_cl0, hb1]) ⟨pk_in 0 24 (by decide), nm_r (e' := upd a6 0 0) (by rw [sb_cl0]) (nm_r (e' := (1 : Int32)) (by decide) ?_)⟩⟩⟩
  have e0 : (1 : Int32) - 1 = 0 := by decide
  rw [e0]
  exact H b1 b2 b3 _ _ _ hok pk_us pk_us pk_us
/-- a message that isn't there -/
theorem cw_rn {post : Int32 → St2 → Prop} {K : Nat → Nat → Nat → Nat} {P : Nat} {x y : Int32} (h : cw_ok c K G a1 a2 a3) (hP : P < 3) (h8 : c P < 8) (hx : ¬ x = 0) (H : post (-1) (1, a1, a2, a3, a4, a5, a6, a7, a8, a9)) : wpX_receive post (1, a1, a2, a3, a4, a5, a6, a7, a8, a9) (nI P) x y := by
  have t : wX_receive_16 post (nI P) x y 1 a1 a2 a3 a4 a5 a6 a7 a8 a9 := by
    unfold wX_receive_16 wX_receive_17
    refine cw_ip P hP (br_f (by decide) ⟨pk_in P 3 hP, ?_⟩)
    rw [nI_clamp (show P < 2 ^ 31 by omega)]
    exact pk_le 8 (c P) (fun z => absurd z (by omega)) (fun _ => br_t rfl H) rfl (h.1 P hP)
  unfold wpX_receive
  exact br_c (fun _ => t) (fun n0 => br_c (fun _ => t) (fun n1 => absurd (cw_zero n0 n1) hx))
/-- a message that has been received -/
theorem cw_rr {post : Int32 → St2 → Prop} {K : Nat → Nat → Nat → Nat} {P : Nat} {y : Int32} (h : cw_ok c K G a1 a2 a3) (hP : P < 3) (h8 : c P < 8) (h6 : a6 0 = 1) (H : post (-1) (1, a1, a2, a3, a4, a5, a6, a7, a8, a9)) : wpX_receive post (1, a1, a2, a3, a4, a5, a6, a7, a8, a9) (nI P) 0 y := by
  have t : wX_receive_17 post (nI P) 0 y 1 1 a1 a2 a3 a4 a5 a6 a7 a8 a9 := by
    unfold wX_receive_17
    refine cw_ip P hP (br_f (by decide) ⟨pk_in P 3 hP, ?_⟩)
    rw [nI_clamp (show P < 2 ^ 31 by omega)]
    refine pk_le 8 (c P) (fun z => absurd z (by omega)) (fun _ => br_f (by decide) ⟨pk_in 0 24 (by decide), ?_⟩) rfl (h.1 P hP)
    rw [sb_cl0, h6]
    exact br_f (by decide) H
  unfold wpX_receive
  exact br_f (by decide) (br_f (by decide) t)
theorem cw_79 {post : Int32 → St2 → Prop} {p q kp kq : Nat} {A3 : Nat → Int32} (hp : p < 3) (hq : q < 3) (hpq : p ≠ q) (hkp : kp ≤ 8) (hkq : kq ≤ 8) (h1 : a1 q = nI kq) (h4 : a4 0 = nI p) (h5 : a5 0 = nI kp) (hA : ∀ Q, Q < 3 → A3 (27 * p + 3 * kp + Q) = nI (cw_K0 p kp Q)) (hB : ∀ Q, Q < 3 → A3 (27 * q + 3 * kq + Q) = nI (cw_K0 q kq Q))
    (H : ∀ b3, (∀ R k Q, R < 3 → k ≤ 8 → Q < 3 → ¬ (R = q ∧ k = kq) → b3 (27 * R + 3 * k + Q) = A3 (27 * R + 3 * k + Q)) → (∀ Q, Q < 3 → b3 (27 * q + 3 * kq + Q) = nI (if Q = p then kp else cw_K0 q kq Q)) → post (nI kq) (m, a1, a2, b3, a4, a5, a6, a7, a8, a9)) :
    ∀ d i a3, i + d = 3 → (∀ R k Q, R < 3 → k ≤ 8 → Q < 3 → ¬ (R = q ∧ k = kq) → a3 (27 * R + 3 * k + Q) = A3 (27 * R + 3 * k + Q)) → (∀ Q, Q < i → a3 (27 * q + 3 * kq + Q) = nI (if Q = p then kp else cw_K0 q kq Q)) → (∀ Q, i ≤ Q → Q < 3 → a3 (27 * q + 3 * kq + Q) = A3 (27 * q + 3 * kq + Q)) → wX_receive_79 post (nI q) 0 m (d + 1) (nI i) a1 a2 a3 a4 a5 a6 a7 a8 a9
  | 0, i, a3, e, f1, f2, f3 => by
    have e3 : i = 3 := by omega
    rw [e3] at f2 ⊢
    refine pk_le 3 3 (fun _ => ⟨pk_in q 3 hq, ?_⟩) (fun z => absurd z (by omega))
    rw [nI_clamp (show q < 2 ^ 31 by omega), h1]
    exact H a3 f1 f2
  | d + 1, i, a3, e, f1, f2, f3 => by
    have hi : i < 3 := by omega
    have hpk : a3 (27 * p + 3 * kp + i) = nI (cw_K0 p kp i) := (f1 p kp i hp hkp hi (fun z => hpq z.1)).trans (hA i hi)
    have v : a3 (27 * q + 3 * kq + i) = nI (cw_K0 q kq i) := (f3 i (Nat.le_refl _) hi).trans (hB i hi)
    have b1 : cw_K0 p kp i ≤ 8 := by
      unfold cw_K0
      split <;> omega
    have b2 : cw_K0 q kq i ≤ 8 := by
      unfold cw_K0
      split <;> omega
    have nx : ∀ t, t = nI (if i = p then kp else cw_K0 q kq i) → wX_receive_79 post (nI q) 0 m (d + 1) (nI (i + 1)) a1 a2 (upd a3 (27 * q + 3 * kq + i) t) a4 a5 a6 a7 a8 a9 := by
      intro t et
      refine cw_79 hp hq hpq hkp hkq h1 h4 h5 hA hB H d (i + 1) _ (by omega) (fun R k Q hR hk hQ hn => ?_) (fun Q hQ => ?_) (fun Q hQ1 hQ2 => ?_)
      · rw [pk_un (fun z => hn ⟨(cw_inj hQ hi hk hkq z).1, (cw_inj hQ hi hk hkq z).2.1⟩)]
        exact f1 R k Q hR hk hQ hn
      · by_cases eq : Q = i
        · rw [eq, pk_us]
          exact et
        · rw [pk_un (by omega)]
          exact f2 Q (by omega)
      · rw [pk_un (by omega)]
        exact f3 Q (by omega) hQ2
    refine pk_le 3 i (fun z => absurd z (by omega)) (fun _ => ⟨pk_in 0 24 (by decide), pk_in 0 24 (by decide), ?_⟩)
    rw [sb_cl0, h4, h5]
    refine cw_kb0 p kp i hp hkp hi ?_
    rw [hpk]
    refine ⟨pk_in q 3 hq, nm_r (e' := nI (27 * q + 3 * kq + i)) (by rw [nI_clamp (show q < 2 ^ 31 by omega), h1, cw_ix]) ⟨pk_in (27 * q + 3 * kq + i) 81 (by omega), ?_⟩⟩
    rw [nI_clamp (show 27 * q + 3 * kq + i < 2 ^ 31 by omega)]
    refine pk_le (cw_K0 p kp i) (cw_K0 q kq i) (fun z => ⟨pk_in (27 * q + 3 * kq + i) 81 (by omega), pk_in (27 * q + 3 * kq + i) 81 (by omega), nm_e (nm_r (nI_1 i) (nx _ ?_))⟩) (fun z => ⟨pk_in (27 * q + 3 * kq + i) 81 (by omega), nm_e (nm_r (nI_1 i) (nx _ ?_))⟩) rfl v
    · rw [v]
      refine congrArg nI ?_
      by_cases eq : i = p
      · rw [if_pos eq, eq]
        rw [eq] at z
        unfold cw_K0 at z ⊢
        rw [if_pos rfl, if_neg (fun t => hpq t.symm)] at z
        rw [if_neg (fun t => hpq t.symm)]
        omega
      · rw [if_neg eq]
    · refine congrArg nI ?_
      by_cases eq : i = p
      · rw [if_pos eq, eq]
        unfold cw_K0
        rw [if_pos rfl]
      · unfold cw_K0 at z
        rw [if_neg (c := p = i) (fun t => eq t.symm)] at z
        omega
/-- the message is received -/
theorem cw_rk {post : Int32 → St2 → Prop} {p q b a g : Nat} {y : Int32} (hp : p < 3) (hq : q < 3) (hpq : p ≠ q) (hb : b < 4) (ha : a < 4) (hg : g ≤ 1) (h : cw_ok (cw_c p q (b + 1) a) cw_K0 (cw_G p q b a g) a1 a2 a3) (h4 : a4 0 = nI p) (h5 : a5 0 = nI (b + 1)) (h6 : a6 0 = 0) (hy : y = nI g)
    (H : ∀ b1 b2 b3 b6, cw_ok (cw_c p q (b + 1) (a + 1)) (cw_K1 p q b a) (cw_G p q b a g) b1 b2 b3 → b6 0 = 1 → post (nI (a + 1)) (1, b1, b2, b3, a4, a5, b6, a7, a8, a9)) : wpX_receive post (1, a1, a2, a3, a4, a5, a6, a7, a8, a9) (nI q) 0 y := by
  have cq : cw_c p q (b + 1) a q = a := by
    unfold cw_c
    rw [if_neg (fun z => hpq z.symm), if_pos rfl]
  have cq' : cw_c p q (b + 1) (a + 1) q = a + 1 := by
    unfold cw_c
    rw [if_neg (fun z => hpq z.symm), if_pos rfl]
  have cp' : cw_c p q (b + 1) (a + 1) p = b + 1 := by
    unfold cw_c
    rw [if_pos rfl]
  have hc : ∀ R, R < 3 → cw_c p q (b + 1) a R ≤ 8 := by
    intro R _
    unfold cw_c
    split
    · omega
    · split <;> omega
  have hG : cw_G p q b a g q (a + 1) = g := by
    unfold cw_G
    rw [if_neg (fun z => hpq z.1.symm), if_pos ⟨rfl, rfl⟩]
  have e2 : ∀ R, R < 3 → R ≠ q → cw_c p q (b + 1) (a + 1) R = cw_c p q (b + 1) a R := by
    intro R _ hne
    unfold cw_c
    rw [if_neg hne, if_neg hne]
  have t : wX_receive_17 post (nI q) 0 y 1 1 a1 a2 a3 a4 a5 a6 a7 a8 a9 := by
    unfold wX_receive_17
    refine cw_ip q hq (br_f (by decide) ⟨pk_in q 3 hq, ?_⟩)
    rw [nI_clamp (show q < 2 ^ 31 by omega)]
    refine pk_le 8 a (fun z => absurd z (by omega)) (fun _ => br_f (by decide) ⟨pk_in 0 24 (by decide), ?_⟩) rfl (by rw [h.1 q hq, cq])
    rw [sb_cl0, h6, h4]
    refine br_t rfl ⟨pk_in 0 24 (by decide), pk_eq p q (fun z => absurd z hpq) (fun _ => ⟨pk_in 0 24 (by decide), nm_e ?_⟩)⟩
    rw [hy]
    refine cw_adv (c' := cw_c p q (b + 1) (a + 1)) h hc hq (by rw [cq]; omega) hg (by rw [cq, cq']) e2 (by rw [cq, hG]) (fun b1 b2 b3 hok => ⟨3 + 1, ?_⟩)
    refine cw_79 (A3 := b3) (kp := b + 1) (kq := a + 1) hp hq hpq (by omega) (by omega) (by rw [hok.1 q hq, cq']) h4 h5 (fun Q hQ => hok.2.1 p (b + 1) Q hp (by rw [cp']; exact Nat.le_refl _) hQ) (fun Q hQ => hok.2.1 q (a + 1) Q hq (by rw [cq']; exact Nat.le_refl _) hQ) (fun d3 f1 f2 => ?_) 3 0 b3 (by omega) (fun _ _ _ _ _ _ _ => rfl) (fun Q hQ => absurd hQ (by omega)) (fun _ _ _ => rfl)
    refine H b1 b2 d3 _ ⟨hok.1, fun R k Q hR hk hQ => ?_, hok.2.2⟩ pk_us
    have hk8 : k ≤ 8 := by
      refine Nat.le_trans hk ?_
      unfold cw_c
      split
      · omega
      · split <;> omega
    by_cases e : R = q ∧ k = a + 1
    · rw [e.1, e.2, f2 Q hQ]
      refine congrArg nI ?_
      unfold cw_K0 cw_K1
      by_cases eq : Q = p
      · rw [if_pos eq, if_neg (fun z => hpq (eq.symm.trans z.symm)), if_pos ⟨rfl, rfl, eq⟩]
      · rw [if_neg eq]
        by_cases eQ : q = Q
        · rw [if_pos eQ, if_pos eQ]
        · rw [if_neg eQ, if_neg eQ, if_neg (fun z => eq z.2.2)]
    · rw [f1 R k Q hR hk8 hQ e, hok.2.1 R k Q hR hk hQ]
      refine congrArg nI ?_
      unfold cw_K0 cw_K1
      by_cases eQ : R = Q
      · rw [if_pos eQ, if_pos eQ]
      · rw [if_neg eQ, if_neg eQ, if_neg (fun z => e ⟨z.1, z.2.1⟩)]
  unfold wpX_receive
  exact br_f (by decide) (br_f (by decide) t)
end
end
section
/-! ===== the law ===== -/
section
variable {m : Int32} {a1 a2 a3 a4 a5 a6 a7 a8 a9 : Nat → Int32} {post : Int32 → St0 → Prop} {mc ms kc ks : Nat} {p q b a g : Nat} {x4 : Int32}
theorem cw_303 {z0 z1 : Int32} (e : z1 = z0) (hp : post 1 ()) : wL_lawOf_303 post mc ms z0 z1 kc ks := br_t e hp
theorem cw_263 {z0 z1 x10 : Int32} (hp3 : p < 3) (hq3 : q < 3) (hpq : p ≠ q) (hb : b < 4) (ha : a < 4) (hg : g ≤ 1) (h : cw_ok (cw_c p q (b + 1) (a + 1)) (cw_K1 p q b a) (cw_G p q b a g) a1 a2 a3) (hx : x10 = nI g) (e : z1 = z0) (hp : post 1 ()) : wL_lawOf_263 post mc ms (nI p) (nI q) (nI b) x10 z0 z1 kc ks m a1 a2 a3 a4 a5 a6 a7 a8 a9 := by
  have hbd := cw_bdF (p := p) (q := q) hpq hb ha hg
  have cp : cw_c p q (b + 1) (a + 1) p = b + 1 := by
    unfold cw_c
    rw [if_pos rfl]
  refine br_t e ?_
  refine cw_de (I := cw_I1 p) (p := p) h hbd (cw_s1 p hp3) (cw_r1 p hp3).1 (cw_r1 p hp3).2.1 hp3 ?_ ?_ (fun P _ z => of_decide_eq_true z) (fun b8 b9 => ?_)
  · intro k hk
    rw [cp] at hk
    unfold cw_G
    rw [if_neg (fun z => absurd z.2 (by omega)), if_neg (fun z => hpq z.1)]
  · rw [cp]
    unfold cw_G
    rw [if_pos ⟨rfl, rfl⟩]
  · refine br_t rfl ?_
    have eg : g = 0 ∨ g = 1 := by omega
    refine cw_le (I := cw_I1 q) h hbd (cw_s1 q hq3) (cw_r1 q hq3).1 (cw_r1 q hq3).2.2 hp3 (fun z b7 => ?_) (fun ct' z b7 => ?_)
    · rcases eg with eg | eg
      · subst eg
        exact br_t hx (cw_303 rfl hp)
      · subst eg
        have d := cw_d4 p hp3 q hq3 hpq b hb a ha
        rw [z] at d
        exact absurd d (by simp)
    · rcases eg with eg | eg
      · subst eg
        have d := cw_d5 p hp3 q hq3 hpq b hb a ha
        rw [z] at d
        exact absurd d (by simp)
      · subst eg
        have d := cw_d4 p hp3 q hq3 hpq b hb a ha
        rw [z] at d
        have d' : ct' p = b + 1 := of_decide_eq_true d
        exact br_f (by rw [hx]; decide) (cw_303 (by rw [d', nI_1]) hp)
theorem cw_237 {z0 : Int32} (hp3 : p < 3) (hq3 : q < 3) (hpq : p ≠ q) (hb : b < 4) (ha : a < 4) (hg : g ≤ 1) (h : cw_ok (cw_c p q (b + 1) (a + 1)) (cw_K1 p q b a) (cw_G p q b a g) a1 a2 a3) (hx : z0 = nI g) (hp : post 1 ()) : wL_lawOf_237 post mc ms (nI p) (nI q) (nI b) z0 kc ks m a1 a2 a3 a4 a5 a6 a7 a8 a9 := by
  have hbd := cw_bdF (p := p) (q := q) hpq hb ha hg
  have eg : g = 0 ∨ g = 1 := by omega
  unfold wL_lawOf_237
  refine cw_po (I := cw_I2 p q) h hbd (cw_s2 p hp3 q hq3) (cw_r2 p hp3 q hq3).1 (cw_r2 p hp3 q hq3).2 (fun z b7 => ?_) (fun ct' z b7 => ?_)
  · rcases eg with eg | eg
    · subst eg
      exact br_t hx (cw_263 hp3 hq3 hpq hb ha hg h hx rfl hp)
    · subst eg
      have d := cw_d2 p hp3 q hq3 hpq b hb a ha
      rw [z] at d
      exact absurd d (by simp)
  · rcases eg with eg | eg
    · subst eg
      have d := cw_d3 p hp3 q hq3 hpq b hb a ha
      rw [z] at d
      exact absurd d (by simp)
    · subst eg
      exact br_f (by rw [hx]; decide) (cw_263 hp3 hq3 hpq hb ha hg h hx rfl hp)
theorem cw_146 {z0 z1 : Int32} (hp3 : p < 3) (hq3 : q < 3) (hpq : p ≠ q) (hb : b < 4) (ha : a < 4) (hg : g ≤ 1) (h : cw_ok (cw_c p q (b + 1) (a + 1)) (cw_K1 p q b a) (cw_G p q b a g) a1 a2 a3) (hx0 : x4 = 0 → g = 1) (hx1 : ¬ x4 = 0 → g = 0) (e : z1 = z0) (hp : post 1 ()) : wL_lawOf_146 post mc ms x4 (nI p) (nI q) (nI b) (nI a) z0 z1 kc ks m a1 a2 a3 a4 a5 a6 a7 a8 a9 := by
  have hbd := cw_bdF (p := p) (q := q) hpq hb ha hg
  have cp : cw_c p q (b + 1) (a + 1) p = b + 1 := by
    unfold cw_c
    rw [if_pos rfl]
  have cq : cw_c p q (b + 1) (a + 1) q = a + 1 := by
    unfold cw_c
    rw [if_neg (fun z => hpq z.symm), if_pos rfl]
  have k1 : cw_K1 p q b a q (a + 1) p = b + 1 := by
    unfold cw_K1
    rw [if_neg (fun z => hpq z.symm), if_pos ⟨rfl, rfl, rfl⟩]
  have k2 : cw_K1 p q b a q a p = 0 := by
    unfold cw_K1
    rw [if_neg (fun z => hpq z.symm), if_neg (fun z => absurd z.2.1 (by omega))]
  have k3 : cw_K1 p q b a p (b + 1) q = 0 := by
    unfold cw_K1
    rw [if_neg hpq, if_neg (fun z => hpq z.1)]
  refine br_t e ?_
  refine cw_kn h hbd q (a + 1) p hq3 (by rw [cq]; exact Nat.le_refl _) hp3 (br_t (by rw [k1, nI_1]) ?_) (nI_1 a)
  refine cw_kn h hbd q a p hq3 (by rw [cq]; omega) hp3 (br_t (by rw [k2]; rfl) ?_)
  refine cw_kn h hbd p (b + 1) q hp3 (by rw [cp]; exact Nat.le_refl _) hq3 (br_t (by rw [k3]; rfl) ?_) (nI_1 b)
  refine cw_cu h hbd (br_t ?_ ?_)
  · rw [cw_d1 p hp3 q hq3 hpq b hb a ha]
    have e2 : (2 : Int32) = nI 2 := rfl
    have e1 : (1 : Int32) = nI 1 := rfl
    rw [e2, e1, nI_add, nI_add, nI_add, pk_mul]
    refine (pk_sub ?_).symm
    have t : (b + 2) * 1 ≤ (b + 2) * (a + 2) := Nat.mul_le_mul_left _ (by omega)
    omega
  · refine br_c (fun z => ?_) (fun z => ?_)
    · have eg := hx0 z
      exact cw_237 hp3 hq3 hpq hb ha hg h (by rw [eg]; rfl) hp
    · have eg := hx1 z
      exact cw_237 hp3 hq3 hpq hb ha hg h (by rw [eg]; rfl) hp
theorem cw_end {n : Nat} (hp3 : p < 3) (hq3 : q < 3) (hpq : p ≠ q) (hb : b < 4) (ha : a < 4) (hg : g ≤ 1) (h : cw_ok (cw_c p q b a) cw_K0 (cw_G p q b a g) a1 a2 a3) (hx0 : x4 = 0 → g = 1) (hx1 : ¬ x4 = 0 → g = 0) (hp : post 1 ()) : wL_lawOf_43 post mc ms x4 (nI p) (nI q) (nI b) (nI a) kc ks (n + 1) (nI 3) 0 a1 a2 a3 a4 a5 a6 a7 a8 a9 := by
  have cp : cw_c p q b a p = b := by
    unfold cw_c
    rw [if_pos rfl]
  have cp' : cw_c p q (b + 1) a p = b + 1 := by
    unfold cw_c
    rw [if_pos rfl]
  have cq1 : cw_c p q (b + 1) a q = a := by
    unfold cw_c
    rw [if_neg (fun z => hpq z.symm), if_pos rfl]
  have cq2 : cw_c p q (b + 1) (a + 1) q = a + 1 := by
    unfold cw_c
    rw [if_neg (fun z => hpq z.symm), if_pos rfl]
  have hc : ∀ R, R < 3 → cw_c p q b a R ≤ 8 := by
    intro R _
    unfold cw_c
    split
    · omega
    · split <;> omega
  have e2 : ∀ R, R < 3 → R ≠ p → cw_c p q (b + 1) a R = cw_c p q b a R := by
    intro R _ hne
    unfold cw_c
    rw [if_neg hne, if_neg hne]
  have hG : cw_G p q b a g p (b + 1) = 1 := by
    unfold cw_G
    rw [if_pos ⟨rfl, rfl⟩]
  refine pk_le 3 3 (fun _ => ?_) (fun z => absurd z (by omega))
  refine cw_sd (g := 1) (c' := cw_c p q (b + 1) a) h hc hp3 (by rw [cp]; omega) (by decide) (by rw [cp, cp']) e2 (by rw [cp, hG]) (fun b1 b2 b3 b4 b5 b6 hok h4 h5 h6 => br_t rfl ?_)
  rw [cp] at h5
  by_cases hx : x4 = 0
  · have eg := hx0 hx
    subst eg
    rw [hx] at hx0 hx1 ⊢
    refine cw_rk hp3 hq3 hpq hb ha hg hok h4 h5 h6 rfl (fun d1 d2 d3 d6 hok' h6' => br_t rfl (br_t (nI_1 a).symm ?_))
    refine cw_rr hok' hq3 (by rw [cq2]; omega) h6' (br_t rfl ?_)
    exact cw_146 hp3 hq3 hpq hb ha hg hok' hx0 hx1 rfl hp
  · have eg := hx1 hx
    subst eg
    refine cw_rn hok hq3 (by rw [cq1]; omega) hx (br_f hx (br_t rfl ?_))
    refine cw_rk hp3 hq3 hpq hb ha hg hok h4 h5 h6 rfl (fun d1 d2 d3 d6 hok' h6' => br_f hx ?_)
    exact cw_146 hp3 hq3 hpq hb ha hg hok' hx0 hx1 (nI_1 a).symm hp
theorem cw_43 (hp3 : p < 3) (hq3 : q < 3) (hpq : p ≠ q) (hb : b < 4) (ha : a < 4) (hg : g ≤ 1) (hx0 : x4 = 0 → g = 1) (hx1 : ¬ x4 = 0 → g = 0) (hp : post 1 ()) : ∀ d i a1 a2 a3, i + d = 3 → cw_ok (cw_c p q (min i b) (min i a)) cw_K0 (cw_G p q b a g) a1 a2 a3 → wL_lawOf_43 post mc ms x4 (nI p) (nI q) (nI b) (nI a) kc ks (d + 1) (nI i) 0 a1 a2 a3 a4 a5 a6 a7 a8 a9
  | 0, i, a1, a2, a3, e, h => by
    have e3 : i = 3 := by omega
    rw [e3] at h ⊢
    rw [show min 3 b = b by omega, show min 3 a = a by omega] at h
    exact cw_end hp3 hq3 hpq hb ha hg h hx0 hx1 hp
  | d + 1, i, a1, a2, a3, e, h => by
    have hi : i < 3 := by omega
    have cp : ∀ u v, cw_c p q u v p = u := by
      intro u v
      unfold cw_c
      rw [if_pos rfl]
    have cq : ∀ u v, cw_c p q u v q = v := by
      intro u v
      unfold cw_c
      rw [if_neg (fun z => hpq z.symm), if_pos rfl]
    have hc : ∀ u v, u ≤ 8 → v ≤ 8 → ∀ R, R < 3 → cw_c p q u v R ≤ 8 := by
      intro u v hu hv R _
      unfold cw_c
      split
      · omega
      · split <;> omega
    have ep : ∀ u v, ∀ R, R < 3 → R ≠ p → cw_c p q (u + 1) v R = cw_c p q u v R := by
      intro u v R _ hne
      unfold cw_c
      rw [if_neg hne, if_neg hne]
    have eq : ∀ u v, ∀ R, R < 3 → R ≠ q → cw_c p q u (v + 1) R = cw_c p q u v R := by
      intro u v R _ hne
      unfold cw_c
      rw [if_neg hne, if_neg hne]
    have gp : ∀ k, k < b → cw_G p q b a g p (k + 1) = 0 := by
      intro k hk
      unfold cw_G
      rw [if_neg (fun z => absurd z.2 (by omega)), if_neg (fun z => hpq z.1)]
    have gq : ∀ k, k < a → cw_G p q b a g q (k + 1) = 0 := by
      intro k hk
      unfold cw_G
      rw [if_neg (fun z => hpq z.1.symm), if_neg (fun z => absurd z.2 (by omega))]
    have A : ∀ b1 b2 b3, cw_ok (cw_c p q (min (i + 1) b) (min i a)) cw_K0 (cw_G p q b a g) b1 b2 b3 → wL_lawOf_65 post mc ms (wL_lawOf_43 post mc ms x4 (nI p) (nI q) (nI b) (nI a) kc ks (d + 1)) x4 (nI p) (nI q) (nI b) (nI a) (nI i) kc ks 0 b1 b2 b3 a4 a5 a6 a7 a8 a9 := by
      intro b1 b2 b3 hok
      refine pk_le a i (fun z => nm_r (nI_1 i) ?_) (fun z => ?_)
      · rw [show min i a = min (i + 1) a by omega] at hok
        exact cw_43 hp3 hq3 hpq hb ha hg hx0 hx1 hp d (i + 1) b1 b2 b3 (by omega) hok
      · rw [show min i a = i by omega] at hok
        refine cw_st (g := 0) (c' := cw_c p q (min (i + 1) b) (i + 1)) hok (hc _ _ (by omega) (by omega)) hq3 (by rw [cq]; omega) (by decide) (by rw [cq, cq]) (eq _ _) (by rw [cq]; exact gq i z) (fun r d1 d2 d3 hok' => nm_r (nI_1 i) ?_)
        rw [show cw_c p q (min (i + 1) b) (i + 1) = cw_c p q (min (i + 1) b) (min (i + 1) a) by rw [show min (i + 1) a = i + 1 by omega]] at hok'
        exact cw_43 hp3 hq3 hpq hb ha hg hx0 hx1 hp d (i + 1) d1 d2 d3 (by omega) hok'
    refine pk_le 3 i (fun z => absurd z (by omega)) (fun _ => pk_le b i (fun z => ?_) (fun z => ?_))
    · rw [show min i b = min (i + 1) b by omega] at h
      exact A a1 a2 a3 h
    · rw [show min i b = i by omega] at h
      refine cw_st (g := 0) (c' := cw_c p q (i + 1) (min i a)) h (hc _ _ (by omega) (by omega)) hp3 (by rw [cp]; omega) (by decide) (by rw [cp, cp]) (ep _ _) (by rw [cp]; exact gp i z) (fun r d1 d2 d3 hok' => ?_)
      rw [show cw_c p q (i + 1) (min i a) = cw_c p q (min (i + 1) b) (min i a) by rw [show min (i + 1) b = i + 1 by omega]] at hok'
      exact A d1 d2 d3 hok'
end
theorem cw_lawOf {post : Int32 → St0 → Prop} (p0 p1 p2 p3 p4 : Int32) (hp : post 1 ()) : wpL_lawOf post 106 1680 () p0 p1 p2 p3 p4 := by
  obtain ⟨j, hj, ej⟩ := pk_andE p0 (m := 255) 8 (by decide)
  obtain ⟨l, hl, el⟩ := pk_andE p1 (m := 1) 1 (by decide)
  obtain ⟨b, hb, eb⟩ := pk_andE p2 (m := 3) 2 (by decide)
  obtain ⟨a, ha, ea⟩ := pk_andE p3 (m := 3) 2 (by decide)
  have hp3 : j % 3 < 3 := by omega
  have hq3 : (j % 3 + 1 + l) % 3 < 3 := by omega
  have hpq : j % 3 ≠ (j % 3 + 1 + l) % 3 := by omega
  have ex6 : (p0 &&& 255) - (p0 &&& 255) / 3 * 3 = nI (j % 3) := by
    rw [ej]
    exact pk_rem (d := 3) (by omega) (by decide) (by decide)
  have ex7 : ((nI (j % 3) + 1) + (p1 &&& 1)) - ((nI (j % 3) + 1) + (p1 &&& 1)) / 3 * 3 = nI ((j % 3 + 1 + l) % 3) := by
    rw [el, nI_1, nI_add]
    exact pk_rem (d := 3) (by omega) (by decide) (by decide)
  have hz : ∀ g, g ≤ 1 → (p4 = 0 → g = 1) → (¬ p4 = 0 → g = 0) → ∃ fu, wL_lawOf_43 post 106 1680 p4 (nI (j % 3)) (nI ((j % 3 + 1 + l) % 3)) (nI b) (nI a) (1 + 9) (10 + 192) fu 0 0 (fun _ => 0) (fun _ => 0) (fun _ => 0) (fun _ => 0) (fun _ => 0) (fun _ => 0) (fun _ => 0) (fun _ => 0) (fun _ => 0) := by
    intro g hg hx0 hx1
    refine ⟨3 + 1, cw_43 hp3 hq3 hpq hb ha hg hx0 hx1 hp 3 0 _ _ _ (by omega) ⟨fun R _ => ?_, fun R k Q _ hk _ => ?_, fun R k _ hk => ?_⟩⟩
    · unfold cw_c
      rw [Nat.zero_min, Nat.zero_min, ite_self, ite_self]
      rfl
    · have hk0 : k = 0 := by
        unfold cw_c at hk
        rw [Nat.zero_min, Nat.zero_min, ite_self, ite_self] at hk
        omega
      unfold cw_K0
      rw [hk0, ite_self]
      rfl
    · have hk0 : k = 0 := by
        unfold cw_c at hk
        rw [Nat.zero_min, Nat.zero_min, ite_self, ite_self] at hk
        omega
      unfold cw_G
      rw [hk0, if_neg (fun z => absurd z.2 (by omega)), if_neg (fun z => absurd z.2 (by omega))]
      rfl
  have hf : ∃ fu, wL_lawOf_43 post 106 1680 p4 (nI (j % 3)) (nI ((j % 3 + 1 + l) % 3)) (nI b) (nI a) (1 + 9) (10 + 192) fu 0 0 (fun _ => 0) (fun _ => 0) (fun _ => 0) (fun _ => 0) (fun _ => 0) (fun _ => 0) (fun _ => 0) (fun _ => 0) (fun _ => 0) := by
    by_cases hx : p4 = 0
    · exact hz 1 (by decide) (fun _ => rfl) (fun z => absurd hx z)
    · exact hz 0 (by decide) (fun z => absurd z hx) (fun _ => rfl)
  unfold wpL_lawOf
  refine ⟨by decide, by decide, 9, 192, by decide, by decide, ?_⟩
  unfold wpX_init
  refine ⟨by decide, by decide, by decide, by decide, by decide, by decide, by decide, by decide, by decide, by decide, by decide, by decide, by decide, by decide, by decide, by decide, by decide, by decide, ?_⟩
  exact ⟨by decide, nm_r ex6 ⟨by decide, nm_r ex7 (nm_r eb (nm_r ea hf))⟩⟩
theorem cw_cell {post : Int32 → Prop} {L : Nat} {xs : Nat → Int32} {u : St0} {x : Int32} (hL : L ≤ 5) (k : Nat) (hk : k < 5) (h : ∀ r, post r) (hx : x = nI k := by rfl) : wpL_cellAt post L xs u x :=
  pk_le L k (fun _ => h _) (fun z => ⟨pk_in k L z hx, h _⟩) rfl hx
theorem i_vc (xs : Nat → Int32) (L : Nat) (hL : L ≤ 5) : wpL_law (fun r => r = 1) L xs := by
  unfold wpL_law
  refine cw_cell hL 0 (by decide) (fun r1 => ?_)
  refine cw_cell hL 1 (by decide) (fun r2 => ?_)
  refine cw_cell hL 2 (by decide) (fun r3 => ?_)
  refine cw_cell hL 3 (by decide) (fun r4 => ?_)
  refine cw_cell hL 4 (by decide) (fun r5 => ?_)
  exact ⟨106, 1680, by decide, by decide, cw_lawOf r1 r2 r3 r4 r5 rfl⟩
end
