section
/-! bits of small masks, indices, the picture of the capacities; set, capacity, cost -/
theorem cf_sh : ∀ v, v < 6 → (1 : Int32) <<< (nI v &&& 31) = nI (2 ^ v) := by decide +kernel
theorem cf_inT : ∀ m, m < 64 → ∀ i, i < 6 → ((nI m >>> (nI i &&& 31)) &&& 1) = (if m.testBit i then 1 else 0) := by decide +kernel
theorem cf_or : ∀ m, m < 64 → ∀ v, v < 6 → nI m ||| ((1 : Int32) <<< (nI v &&& 31)) = nI (m ||| 2 ^ v) := by decide +kernel
theorem cf_or0 : ∀ m, m < 64 → nI m ||| 0 = nI m := by decide +kernel
theorem cf_ol : ∀ m, m < 64 → ∀ v, v < 6 → m ||| 2 ^ v < 64 := by decide +kernel
theorem cf_pl : ∀ v, v < 6 → 2 ^ v < 64 := by decide +kernel
theorem cf_b8 : ∀ v, v < 6 → (nI v).toInt8.toInt32 = nI v := by decide +kernel
theorem cf_inb {A B : Prop} {m i : Nat} {u : St0} (hm : m < 64) (hi : i < 6) (h0 : m.testBit i = false → A) (h1 : m.testBit i = true → B) : wpX_in (fun r => (r = 0 → A) ∧ (¬ r = 0 → B)) u (nI m) (nI i) := by
  unfold wpX_in
  rw [cf_inT m hm i hi]
  cases hb : m.testBit i with
  | false => exact br_t rfl (br_t rfl (h0 hb))
  | true => exact br_f (by decide) (br_f (by decide) (h1 hb))
theorem cf_ix (s i : Nat) : nI s * 6 + nI i = nI (s * 6 + i) := by
  rw [show (6 : Int32) = nI 6 from rfl, pk_mul, nI_add]
theorem cf_cl {s i : Nat} (hs : s < 6) (hi : i < 6) : (nI s * 6 + nI i).toNatClampNeg = s * 6 + i := by
  rw [cf_ix, nI_clamp (by omega)]
theorem cf_in36 {s i : Nat} (hs : s < 6) (hi : i < 6) : vp_in (nI s * 6 + nI i) 36 := pk_in (s * 6 + i) 36 (by omega) (cf_ix s i)
theorem cf_succ {k : Nat} {z : Int32} (hk : k + 1 < 2 ^ 31) (h : nI (k + 1) ≤ z) : nI k < z ∧ ¬ z ≤ nI k := by
  rw [Int32.le_iff_toInt_le, nI_toInt hk] at h
  have e : (nI k).toInt = (k : Int) := nI_toInt (by omega)
  constructor
  · rw [Int32.lt_iff_toInt_lt, e]
    omega
  · rw [Int32.le_iff_toInt_le, e]
    omega
/-- a place -/
def cf_P (x : Int32) : Prop := ∃ j, j < 6 ∧ x = nI j
theorem cf_nP {x : Int32} (h : x < 0 ∨ nI 6 ≤ x) : ¬ cf_P x := by
  intro ⟨j, hj, e⟩
  subst e
  rcases h with h | h
  · exact nI_pos (by omega) h
  · exact nI_ge hj (by omega) h
theorem cf_place {post : Int32 → Prop} {u : St0} {x : Int32} (h1 : ∀ j, j < 6 → x = nI j → post 1) (h0 : ¬ cf_P x → post 0) : wpX_isPlace post u x := by
  unfold wpX_isPlace
  rcases pk_ix x (n := 6) (by omega) with h | h | ⟨j, hj, e⟩
  · exact br_t h (h0 (cf_nP (Or.inl h)))
  · exact br_c (fun _ => h0 (cf_nP (Or.inr h))) (fun _ => br_t h (h0 (cf_nP (Or.inr h))))
  · subst e
    exact br_f (nI_pos (by omega)) (br_f (nI_ge (b := 6) hj (by omega)) (h1 j hj rfl))
theorem cf_pair {post : Int32 → Prop} {u : St0} {x y : Int32} (h1 : ∀ i j, i < 6 → j < 6 → i ≠ j → x = nI i → y = nI j → post 1) (h0 : ¬ (cf_P x ∧ cf_P y ∧ ¬ x = y) → post 0) : wpX_isPair post u x y := by
  unfold wpX_isPair
  refine cf_place (fun i hi ex => br_f (by decide) ?_) (fun h => br_t rfl (h0 (fun z => h z.1)))
  refine cf_place (fun j hj ey => br_f (by decide) ?_) (fun h => br_t rfl (h0 (fun z => h z.2.1)))
  refine br_c (fun e => h0 (fun z => z.2.2 e)) (fun e => h1 i j hi hj ?_ ex ey)
  intro e'
  exact e (by rw [ex, ey, e'])
/-- one link of capacity c between p and q, and nothing else -/
def cf_e (p q c i j : Nat) : Nat := if (i = p ∧ j = q) ∨ (i = q ∧ j = p) then c else 0
def cf_E (p q c : Nat) (a : Nat → Int32) : Prop := ∀ i j, i < 6 → j < 6 → a (i * 6 + j) = nI (cf_e p q c i j)
theorem cf_E_sw {p q c : Nat} {a : Nat → Int32} (h : cf_E p q c a) : cf_E q p c a := by
  intro i j hi hj
  rw [h i j hi hj]
  unfold cf_e
  congr 1
  by_cases h1 : (i = p ∧ j = q) ∨ (i = q ∧ j = p)
  · rw [if_pos h1, if_pos h1.symm]
  · rw [if_neg h1, if_neg (fun z => h1 z.symm)]
theorem cf_E_0 {p q p' q' : Nat} {a : Nat → Int32} (h : cf_E p q 0 a) : cf_E p' q' 0 a := by
  intro i j hi hj
  rw [h i j hi hj]
  unfold cf_e
  rw [ite_self, ite_self]
theorem cf_E_z {p q : Nat} : cf_E p q 0 (fun _ => 0) := by
  intro i j hi hj
  unfold cf_e
  rw [ite_self]
  rfl
theorem cf_put {post : St2 → Prop} {f0 : Int32} {a1 a2 a3 a4 a5 a6 a7 a8 : Nat → Int32} {p q c d : Nat} (hp : p < 6) (hq : q < 6) (hE : cf_E p q c a1) (H : ∀ a1', cf_E p q d a1' → post (f0, a1', a2, a3, a4, a5, a6, a7, a8)) : wpX_put post (f0, a1, a2, a3, a4, a5, a6, a7, a8) (nI p) (nI q) (nI d) := by
  refine ⟨cf_in36 hp hq, fun b1 e1 => ⟨cf_in36 hq hp, fun b2 e2 => H b2 ?_⟩⟩
  rw [cf_cl hp hq] at e1
  rw [cf_cl hq hp] at e2
  subst e1
  subst e2
  intro i j hi hj
  unfold cf_e
  by_cases h1 : i * 6 + j = q * 6 + p
  · rw [h1, pk_us, if_pos (by omega)]
  · rw [pk_un h1]
    by_cases h2 : i * 6 + j = p * 6 + q
    · rw [h2, pk_us, if_pos (by omega)]
    · rw [pk_un h2, hE i j hi hj]
      unfold cf_e
      rw [if_neg (by omega), if_neg (by omega)]
/-- a capacity that may be set -/
def cf_C (z : Int32) : Prop := ∃ n, n ≤ 30 ∧ z = nI n
theorem cf_nC {z : Int32} (h : z < 0 ∨ nI 31 ≤ z) : ¬ cf_C z := by
  intro ⟨n, hn, e⟩
  subst e
  rcases h with h | h
  · exact nI_pos (by omega) h
  · exact nI_ge (a := n) (b := 31) (by omega) (by omega) h
theorem cf_set {post : Int32 → St2 → Prop} {f0 : Int32} {a1 a2 a3 a4 a5 a6 a7 a8 : Nat → Int32} {x y z : Int32} (hE : ∀ p q, cf_E p q 0 a1)
    (h1 : ∀ i j n a1', i < 6 → j < 6 → i ≠ j → n ≤ 30 → x = nI i → y = nI j → z = nI n → cf_E i j n a1' → post 1 (f0, a1', a2, a3, a4, a5, a6, a7, a8))
    (h0 : ¬ ((cf_P x ∧ cf_P y ∧ ¬ x = y) ∧ cf_C z) → post 0 (f0, a1, a2, a3, a4, a5, a6, a7, a8)) : wpX_set post (f0, a1, a2, a3, a4, a5, a6, a7, a8) x y z := by
  unfold wpX_set
  refine cf_pair (fun i j hi hj hij ex ey => br_f (by decide) ?_) (fun h => br_t rfl (h0 (fun t => h t.1)))
  rcases pk_ix z (n := 31) (by omega) with h | h | ⟨n, hn, e⟩
  · exact br_t h (h0 (fun t => cf_nC (Or.inl h) t.2))
  · exact br_c (fun _ => h0 (fun t => cf_nC (Or.inr h) t.2)) (fun _ => br_f (cf_succ (k := 30) (by omega) h).2 (h0 (fun t => cf_nC (Or.inr h) t.2)))
  · subst e
    refine br_f (nI_pos (by omega)) (br_t (nI_le (b := 30) (by omega) (by omega)) ?_)
    subst ex
    subst ey
    exact cf_put hi hj (hE i j) (fun a1' h' => h1 i j n a1' hi hj hij (by omega) rfl rfl rfl h')
theorem cf_capacity {post : Int32 → Prop} {f0 : Int32} {a1 a2 a3 a4 a5 a6 a7 a8 : Nat → Int32} {x y : Int32} {p q c : Nat} (hE : cf_E p q c a1)
    (h1 : ∀ i j, i < 6 → j < 6 → i ≠ j → x = nI i → y = nI j → post (nI (cf_e p q c i j)))
    (h0 : ¬ (cf_P x ∧ cf_P y ∧ ¬ x = y) → post (-1)) : wpX_capacity post (f0, a1, a2, a3, a4, a5, a6, a7, a8) x y := by
  unfold wpX_capacity
  refine cf_pair (fun i j hi hj hij ex ey => br_f (by decide) ?_) (fun h => br_t rfl (h0 h))
  have h := h1 i j hi hj hij ex ey
  subst ex
  subst ey
  refine ⟨cf_in36 hi hj, ?_⟩
  rw [cf_cl hi hj, hE i j hi hj]
  exact h
/-! sums -/
def cf_sum (g : Nat → Nat) : Nat → Nat
  | 0 => 0
  | k + 1 => cf_sum g k + g k
theorem cf_sum2 {g : Nat → Nat} {p q : Nat} (hpq : p ≠ q) (h : ∀ j, j ≠ p → j ≠ q → g j = 0) : ∀ k, cf_sum g k = (if p < k then g p else 0) + (if q < k then g q else 0) := by
  intro k
  induction k with
  | zero => rfl
  | succ k ih =>
    show cf_sum g k + g k = _
    rw [ih]
    by_cases h1 : k = p
    · subst h1
      (repeat' split) <;> omega
    · by_cases h2 : k = q
      · subst h2
        (repeat' split) <;> omega
      · have h3 := h k h1 h2
        (repeat' split) <;> omega
theorem cf_sum0 {g : Nat → Nat} : ∀ k, (∀ j, j < k → g j = 0) → cf_sum g k = 0 := by
  intro k
  induction k with
  | zero => intro _; rfl
  | succ k ih =>
    intro h
    show cf_sum g k + g k = 0
    rw [ih (fun j hj => h j (by omega)), h k (by omega)]
theorem cf_sumB {g : Nat → Nat} {B : Nat} : ∀ k, (∀ j, j < k → g j ≤ B) → cf_sum g k ≤ k * B := by
  intro k
  induction k with
  | zero => intro _; show 0 ≤ _; omega
  | succ k ih =>
    intro h
    show cf_sum g k + g k ≤ (k + 1) * B
    have h1 := ih (fun j hj => h j (by omega))
    have h2 := h k (by omega)
    rw [Nat.succ_mul]
    omega
/-- what a cell adds to the cost of side m -/
def cf_ct (p q c m i j : Nat) : Nat := if m.testBit i = true ∧ m.testBit j = false then cf_e p q c i j else 0
theorem cf_ct_sum {p q c m : Nat} (hpq : p ≠ q) (hp : p < 6) (hq : q < 6) : cf_sum (fun i => cf_sum (cf_ct p q c m i) 6) 6 = if m.testBit p = m.testBit q then 0 else c := by
  have z : ∀ i j, ¬ ((i = p ∧ j = q) ∨ (i = q ∧ j = p)) → cf_ct p q c m i j = 0 := by
    intro i j h
    unfold cf_ct cf_e
    rw [if_neg h, ite_self]
  have r : ∀ i, cf_sum (cf_ct p q c m i) 6 = cf_ct p q c m i p + cf_ct p q c m i q := by
    intro i
    rw [cf_sum2 hpq (fun j h1 h2 => z i j (by omega)), if_pos hp, if_pos hq]
  rw [cf_sum2 hpq (fun i h1 h2 => by show cf_sum (cf_ct p q c m i) 6 = 0; rw [r, z i p (by omega), z i q (by omega)]), if_pos hp, if_pos hq]
  show cf_sum (cf_ct p q c m p) 6 + cf_sum (cf_ct p q c m q) 6 = _
  rw [r, r, z p p (by omega), z q q (by omega)]
  unfold cf_ct cf_e
  cases m.testBit p <;> cases m.testBit q <;> simp
theorem cf_c26 {post : Int32 → Prop} {J : Int32 → Int32 → Prop} {f0 : Int32} {a1 a2 a3 a4 a5 a6 a7 a8 : Nat → Int32} {p q c m i b : Nat} (hm : m < 64) (hi : i < 6) (hE : cf_E p q c a1) (H : J (nI (b + cf_sum (cf_ct p q c m i) 6)) (nI (i + 1))) : ∃ n, wX_cost_26 post J (nI m) (nI i) f0 a1 a2 a3 a4 a5 a6 a7 a8 n (nI b) 0 := by
  refine pk_loop (fun n j s => wX_cost_26 post J (nI m) (nI i) f0 a1 a2 a3 a4 a5 a6 a7 a8 n s (nI j)) (fun j s => s = nI (b + cf_sum (cf_ct p q c m i) j)) 6 0 (nI b) (by omega) rfl ?_ ?_
  · intro n s h
    subst h
    exact pk_le 6 6 (fun _ => nm_r (nI_1 i) H) (fun z => absurd z (by omega))
  · intro n j s hj h hw
    subst h
    have hs : ∀ d, cf_ct p q c m i j = d → nI (b + cf_sum (cf_ct p q c m i) j) + nI d = nI (b + cf_sum (cf_ct p q c m i) (j + 1)) := by
      intro d e
      rw [nI_add, ← e]
      exact congrArg nI (Nat.add_assoc _ _ _)
    refine pk_le 6 j (fun z => absurd z (by omega)) (fun _ => ?_)
    refine cf_inb hm hi (fun hb => ?_) (fun hb => cf_inb hm hj (fun hc => ⟨cf_in36 hi hj, ?_⟩) (fun hc => ?_))
    · refine nm_r (hs 0 ?_) (nm_r (nI_1 j) (hw _ rfl))
      unfold cf_ct
      rw [hb]
      rfl
    · rw [cf_cl hi hj, hE i j hi hj]
      refine nm_r (hs _ ?_) (nm_r (nI_1 j) (hw _ rfl))
      unfold cf_ct
      rw [hb, hc]
      rfl
    · refine nm_r (hs 0 ?_) (nm_r (nI_1 j) (hw _ rfl))
      unfold cf_ct
      rw [hb, hc]
      rfl
theorem cf_cost {post : Int32 → Prop} {f0 : Int32} {a1 a2 a3 a4 a5 a6 a7 a8 : Nat → Int32} {p q c : Nat} {x : Int32} (hpq : p ≠ q) (hp : p < 6) (hq : q < 6) (hE : cf_E p q c a1)
    (h0 : x < 1 ∨ 62 < x → post (-1)) (h1 : ∀ m, 1 ≤ m → m < 63 → x = nI m → post (nI (if m.testBit p = m.testBit q then 0 else c))) : wpX_cost post (f0, a1, a2, a3, a4, a5, a6, a7, a8) x := by
  unfold wpX_cost
  rcases pk_ix x (n := 63) (by omega) with h | h | ⟨m, hm, e⟩
  · have h' : x < 1 := by
      rw [Int32.lt_iff_toInt_lt] at h ⊢
      rw [show (0 : Int32).toInt = 0 from rfl] at h
      rw [show (1 : Int32).toInt = 1 from rfl]
      omega
    exact br_t h' (h0 (Or.inl h'))
  · have h2 := (cf_succ (k := 62) (by omega) h).1
    refine br_c (fun h' => h0 (Or.inl h')) (fun _ => br_f ?_ (h0 (Or.inr h2)))
    rw [Int32.not_lt]
    exact h
  · subst e
    refine pk_lt m 1 (fun z => h0 (Or.inl (nI_lt (b := 1) z (by omega)))) (fun z => br_t (nI_lt (b := 63) hm (by omega)) ?_)
    have H := h1 m z hm rfl
    refine pk_loop (fun n i s => wX_cost_17 post (nI m) f0 a1 a2 a3 a4 a5 a6 a7 a8 n s (nI i)) (fun i s => s = nI (cf_sum (fun i => cf_sum (cf_ct p q c m i) 6) i)) 6 0 0 (by omega) rfl ?_ ?_
    · intro n s hs
      subst hs
      rw [cf_ct_sum hpq hp hq]
      exact pk_le 6 6 (fun _ => H) (fun z => absurd z (by omega))
    · intro n i s hi hs hw
      subst hs
      exact pk_le 6 i (fun z => absurd z (by omega)) (fun _ => cf_c26 (by omega) hi hE (hw _ rfl))
end
section
/-! pushing flow: spread, push, flow -/
theorem cf_93q {post : Int32 → St2 → Prop} {J : Int32 → Int32 → Int32 → (Nat → Int32) → (Nat → Int32) → (Nat → Int32) → (Nat → Int32) → (Nat → Int32) → (Nat → Int32) → (Nat → Int32) → (Nat → Int32) → Prop} {x2 x4 x4' x3 : Int32} {a1 a2 a3 a4 a5 a6 a7 a8 : Nat → Int32} {v m : Nat} (hv : v < 6) (hm : m < 64) (hx : x4 + 1 = x4')
    (hq : ∀ j, j < 6 → m.testBit j = true ∨ a2 (v * 6 + j) ≤ 0) (H : J x3 x4' (nI m) a1 a2 a3 a4 a5 a6 a7 a8) : ∃ n, wX_spread_93 post J x2 x4 (nI v) n x3 0 (nI m) a1 a2 a3 a4 a5 a6 a7 a8 := by
  refine pk_loop (σ := Unit) (fun n j _ => wX_spread_93 post J x2 x4 (nI v) n x3 (nI j) (nI m) a1 a2 a3 a4 a5 a6 a7 a8) (fun _ _ => True) 6 0 () (by omega) trivial ?_ ?_
  · intro n _ _
    exact pk_le 6 6 (fun _ => nm_r hx H) (fun z => absurd z (by omega))
  · intro n j _ hj _ hw
    refine pk_le 6 j (fun z => absurd z (by omega)) (fun _ => cf_inb hm hj (fun hb => ⟨cf_in36 hv hj, br_t ?_ (nm_r (nI_1 j) (hw () trivial))⟩) (fun _ => nm_r (nI_1 j) (hw () trivial)))
    rw [cf_cl hv hj]
    rcases hq j hj with h | h
    · rw [hb] at h
      exact absurd h (by decide)
    · exact h
theorem cf_93f {post : Int32 → St2 → Prop} {J : Int32 → Int32 → Int32 → (Nat → Int32) → (Nat → Int32) → (Nat → Int32) → (Nat → Int32) → (Nat → Int32) → (Nat → Int32) → (Nat → Int32) → (Nat → Int32) → Prop} {x4 x4' : Int32} {a1 a2 a3 a4 a5 a6 a7 a8 : Nat → Int32} {v m u t e : Nat} (hv : v < 6) (hm : m < 64) (hu : u < 6) (ht : t < 6) (he : e < 8) (hx : x4 + 1 = x4')
    (hmu : m.testBit u = false) (hr : ¬ a2 (v * 6 + u) ≤ 0) (hq : ∀ j, j < 6 → j ≠ u → m.testBit j = true ∨ a2 (v * 6 + j) ≤ 0)
    (H1 : t = u → post (nI u) (nI (m ||| 2 ^ u), a1, a2, upd a3 u (nI v), upd a4 e (nI u), a5, a6, a7, a8))
    (H2 : t ≠ u → J (nI (e + 1)) x4' (nI (m ||| 2 ^ u)) a1 a2 (upd a3 u (nI v)) (upd a4 e (nI u)) a5 a6 a7 a8) : ∃ n, wX_spread_93 post J (nI (2 ^ t)) x4 (nI v) n (nI e) 0 (nI m) a1 a2 a3 a4 a5 a6 a7 a8 := by
  refine pk_loop (fun n j (s : Int32 × Int32 × (Nat → Int32) × (Nat → Int32)) => wX_spread_93 post J (nI (2 ^ t)) x4 (nI v) n s.1 (nI j) s.2.1 a1 a2 s.2.2.1 s.2.2.2 a5 a6 a7 a8)
    (fun j s => (j ≤ u ∧ s = (nI e, nI m, a3, a4)) ∨ (u < j ∧ t ≠ u ∧ s = (nI (e + 1), nI (m ||| 2 ^ u), upd a3 u (nI v), upd a4 e (nI u)))) 6 0 (nI e, nI m, a3, a4) (by omega) (Or.inl ⟨by omega, rfl⟩) ?_ ?_
  · intro n s h
    rcases h with ⟨h, _⟩ | ⟨_, h, hs⟩
    · exact absurd h (by omega)
    · subst hs
      exact pk_le 6 6 (fun _ => nm_r hx (H2 h)) (fun z => absurd z (by omega))
  · intro n j s hj h hw
    rcases h with ⟨h, hs⟩ | ⟨h, htu, hs⟩
    · subst hs
      refine pk_le 6 j (fun z => absurd z (by omega)) (fun _ => ?_)
      by_cases hju : j = u
      · subst hju
        refine cf_inb hm hj (fun _ => ⟨cf_in36 hv hj, br_f ?_ ?_⟩) (fun hb => ?_)
        · rw [cf_cl hv hj]
          exact hr
        · refine nm_r (cf_or m hm j hj) ⟨pk_in j 6 hj, nm_r (e' := upd a3 j (nI v)) ?_ ⟨pk_in e 8 he, nm_r (e' := upd a4 e (nI j)) ?_ (nm_r (nI_1 e) (cf_inb (cf_pl t ht) hj (fun hb => nm_r (nI_1 j) (hw (_, _, _, _) ?_)) (fun hb => H1 ?_)))⟩⟩
          · rw [nI_clamp (by omega), cf_b8 v hv]
          · rw [nI_clamp (by omega), cf_b8 j hj]
          · refine Or.inr ⟨by omega, ?_, rfl⟩
            intro z
            subst z
            rw [Nat.testBit_two_pow_self] at hb
            exact absurd hb (by decide)
          · rw [Nat.testBit_two_pow] at hb
            exact of_decide_eq_true hb
        · rw [hmu] at hb
          exact absurd hb (by decide)
      · refine cf_inb hm hj (fun hb => ⟨cf_in36 hv hj, br_t ?_ (nm_r (nI_1 j) (hw _ (Or.inl ⟨by omega, rfl⟩)))⟩) (fun _ => nm_r (nI_1 j) (hw _ (Or.inl ⟨by omega, rfl⟩)))
        rw [cf_cl hv hj]
        rcases hq j hj hju with h' | h'
        · rw [hb] at h'
          exact absurd h' (by decide)
        · exact h'
    · subst hs
      refine pk_le 6 j (fun z => absurd z (by omega)) (fun _ => ?_)
      refine cf_inb (cf_ol m hm u hu) hj (fun hb => ⟨cf_in36 hv hj, br_t ?_ (nm_r (nI_1 j) (hw _ (Or.inr ⟨by omega, htu, rfl⟩)))⟩) (fun _ => nm_r (nI_1 j) (hw _ (Or.inr ⟨by omega, htu, rfl⟩)))
      rw [cf_cl hv hj]
      rcases hq j hj (by omega) with h' | h'
      · rw [Nat.testBit_or, h'] at hb
        exact absurd hb (by simp)
      · exact h'
theorem cf_spread {post : Int32 → St2 → Prop} {f0 : Int32} {a1 a2 a3 a4 a5 a6 a7 a8 : Nat → Int32} {s t : Nat} (hs : s < 6) (H : ∃ fu, wX_spread_68 post (nI (2 ^ t)) fu (nI 1) 0 (nI (2 ^ s)) a1 a2 (upd a3 s (-1)) (upd a4 0 (nI s)) a5 a6 a7 a8) : wpX_spread post (f0, a1, a2, a3, a4, a5, a6, a7, a8) (nI (2 ^ s)) (nI (2 ^ t)) := by
  refine pk_loop (fun n j (z : Int32 × Int32 × (Nat → Int32) × (Nat → Int32)) => wX_spread_10 post (nI (2 ^ s)) (nI (2 ^ t)) n z.1 (nI j) z.2.1 a1 a2 z.2.2.1 z.2.2.2 a5 a6 a7 a8)
    (fun j z => (j ≤ s ∧ z = (nI 0, nI 0, a3, a4)) ∨ (s < j ∧ z = (nI 1, nI (2 ^ s), upd a3 s (-1), upd a4 0 (nI s)))) 6 0 (nI 0, nI 0, a3, a4) (by omega) (Or.inl ⟨by omega, rfl⟩) ?_ ?_
  · intro n z h
    rcases h with ⟨h, _⟩ | ⟨_, hz⟩
    · exact absurd h (by omega)
    · subst hz
      exact pk_le 6 6 (fun _ => H) (fun z => absurd z (by omega))
  · intro n j z hj h hw
    refine pk_le 6 j (fun z => absurd z (by omega)) (fun _ => cf_inb (cf_pl s hs) hj (fun hb => nm_r (nI_1 j) (hw _ ?_)) (fun hb => ?_))
    · have hsj : s ≠ j := by
        intro e
        subst e
        rw [Nat.testBit_two_pow_self] at hb
        exact absurd hb (by decide)
      rcases h with ⟨h, hz⟩ | ⟨h, hz⟩
      · exact Or.inl ⟨by omega, hz⟩
      · exact Or.inr ⟨by omega, hz⟩
    · rw [Nat.testBit_two_pow] at hb
      have e : s = j := of_decide_eq_true hb
      rcases h with ⟨_, hz⟩ | ⟨h, _⟩
      · subst hz
        subst e
        refine nm_r (e' := nI (2 ^ s)) ?_ ⟨pk_in s 6 hs, nm_r (e' := upd a3 s (-1)) ?_ ⟨pk_in 0 8 (by omega), nm_r (e' := upd a4 0 (nI s)) ?_ (nm_r (e' := nI 1) rfl (nm_r (nI_1 s) (hw _ (Or.inr ⟨by omega, rfl⟩))))⟩⟩
        · show nI 0 ||| (1 : Int32) <<< (nI s &&& 31) = nI (2 ^ s)
          rw [cf_or 0 (by omega) s hs, Nat.zero_or]
        · rw [nI_clamp (by omega)]
        · show upd a4 (nI 0).toNatClampNeg (nI s).toInt8.toInt32 = _
          rw [nI_clamp (by omega), cf_b8 s hs]
      · exact absurd h (by omega)
/-- nothing leads away from s -/
theorem cf_spreadA {post : Int32 → St2 → Prop} {f0 : Int32} {a1 a2 a3 a4 a5 a6 a7 a8 : Nat → Int32} {s t : Nat} (hs : s < 6) (hq : ∀ j, j < 6 → j ≠ s → a2 (s * 6 + j) ≤ 0)
    (H : post (-1) (nI (2 ^ s), a1, a2, upd a3 s (-1), upd a4 0 (nI s), a5, a6, a7, a8)) : wpX_spread post (f0, a1, a2, a3, a4, a5, a6, a7, a8) (nI (2 ^ s)) (nI (2 ^ t)) := by
  refine cf_spread hs ⟨2, pk_le 1 0 (fun z => absurd z (by omega)) (fun _ => pk_le 6 0 (fun z => absurd z (by omega)) (fun _ => ⟨pk_in 0 8 (by omega), nm_r (e' := nI s) rfl (cf_93q (x4' := nI 1) hs (cf_pl s hs) rfl ?_ ?_)⟩))⟩
  · intro j hj
    by_cases e : j = s
    · subst e
      exact Or.inl Nat.testBit_two_pow_self
    · exact Or.inr (hq j hj e)
  · exact pk_le 1 1 (fun _ => H) (fun z => absurd z (by omega))
/-- one link leads from s, to the goal -/
theorem cf_spreadT {post : Int32 → St2 → Prop} {f0 : Int32} {a1 a2 a3 a4 a5 a6 a7 a8 : Nat → Int32} {s t : Nat} (hs : s < 6) (ht : t < 6) (hst : s ≠ t) (hr : ¬ a2 (s * 6 + t) ≤ 0) (hq : ∀ j, j < 6 → j ≠ s → j ≠ t → a2 (s * 6 + j) ≤ 0)
    (H : post (nI t) (nI (2 ^ s ||| 2 ^ t), a1, a2, upd (upd a3 s (-1)) t (nI s), upd (upd a4 0 (nI s)) 1 (nI t), a5, a6, a7, a8)) : wpX_spread post (f0, a1, a2, a3, a4, a5, a6, a7, a8) (nI (2 ^ s)) (nI (2 ^ t)) := by
  refine cf_spread hs ⟨1, pk_le 1 0 (fun z => absurd z (by omega)) (fun _ => pk_le 6 0 (fun z => absurd z (by omega)) (fun _ => ⟨pk_in 0 8 (by omega), nm_r (e' := nI s) rfl (cf_93f (x4' := nI 1) (e := 1) hs (cf_pl s hs) ht ht (by omega) rfl ?_ hr ?_ (fun _ => H) (fun z => absurd rfl z))⟩))⟩
  · rw [Nat.testBit_two_pow_of_ne hst]
  · intro j hj h
    by_cases e : j = s
    · subst e
      exact Or.inl Nat.testBit_two_pow_self
    · exact Or.inr (hq j hj e h)
/-- one link leads from s, to u, and none on from there -/
theorem cf_spreadU {post : Int32 → St2 → Prop} {f0 : Int32} {a1 a2 a3 a4 a5 a6 a7 a8 : Nat → Int32} {s t u : Nat} (hs : s < 6) (ht : t < 6) (hu : u < 6) (hsu : s ≠ u) (htu : t ≠ u) (hr : ¬ a2 (s * 6 + u) ≤ 0) (hq : ∀ j, j < 6 → j ≠ s → j ≠ u → a2 (s * 6 + j) ≤ 0) (hq2 : ∀ j, j < 6 → j ≠ s → j ≠ u → a2 (u * 6 + j) ≤ 0)
    (H : post (-1) (nI (2 ^ s ||| 2 ^ u), a1, a2, upd (upd a3 s (-1)) u (nI s), upd (upd a4 0 (nI s)) 1 (nI u), a5, a6, a7, a8)) : wpX_spread post (f0, a1, a2, a3, a4, a5, a6, a7, a8) (nI (2 ^ s)) (nI (2 ^ t)) := by
  refine cf_spread hs ⟨3, pk_le 1 0 (fun z => absurd z (by omega)) (fun _ => pk_le 6 0 (fun z => absurd z (by omega)) (fun _ => ⟨pk_in 0 8 (by omega), nm_r (e' := nI s) rfl (cf_93f (x4' := nI 1) (e := 1) hs (cf_pl s hs) hu ht (by omega) rfl ?_ hr ?_ (fun z => absurd z htu) (fun _ => ?_))⟩))⟩
  · rw [Nat.testBit_two_pow_of_ne hsu]
  · intro j hj h
    by_cases e : j = s
    · subst e
      exact Or.inl Nat.testBit_two_pow_self
    · exact Or.inr (hq j hj e h)
  · refine pk_le 2 1 (fun z => absurd z (by omega)) (fun _ => pk_le 6 1 (fun z => absurd z (by omega)) (fun _ => ⟨pk_in 1 8 (by omega), nm_r (e' := nI u) rfl (cf_93q (x4' := nI 2) hu (cf_ol _ (cf_pl s hs) u hu) rfl ?_ ?_)⟩))
    · intro j hj
      by_cases e : j = s
      · subst e
        refine Or.inl ?_
        rw [Nat.testBit_or, Nat.testBit_two_pow_self, Bool.true_or]
      · by_cases e2 : j = u
        · subst e2
          refine Or.inl ?_
          rw [Nat.testBit_or, Nat.testBit_two_pow_self, Bool.or_true]
        · exact Or.inr (hq2 j hj e e2)
    · exact pk_le 2 2 (fun _ => H) (fun z => absurd z (by omega))
/-- a way of one link, from s to t -/
theorem cf_push {post : Int32 → St2 → Prop} {f0 : Int32} {a1 a2 a3 a4 a5 a6 a7 a8 : Nat → Int32} {s t c : Nat} (hs : s < 6) (ht : t < 6) (hst : s ≠ t) (hc : c ≤ 30) (h1 : a3 t = nI s) (h2 : a3 s = -1) (h3 : a2 (s * 6 + t) = nI c)
    (H : post (nI c) (f0, a1, upd (upd a2 (s * 6 + t) (nI 0)) (t * 6 + s) (a2 (t * 6 + s) + nI c), a3, a4, a5, a6, a7, a8)) : wpX_push post (f0, a1, a2, a3, a4, a5, a6, a7, a8) (nI t) := by
  have c1 : (nI t).toNatClampNeg = t := nI_clamp (by omega)
  have c2 : (nI s).toNatClampNeg = s := nI_clamp (by omega)
  have n1 : ¬ a3 (nI t).toNatClampNeg < 0 := by
    rw [c1, h1]
    exact nI_pos (by omega)
  have n2 : a3 (nI s).toNatClampNeg < 0 := by
    rw [c2, h2]
    decide
  have e1 : a3 (nI t).toNatClampNeg = nI s := by rw [c1, h1]
  have hix : s * 6 + t ≠ t * 6 + s := by omega
  refine ⟨2, pk_in t 6 ht, br_f n1 ⟨pk_in t 6 ht, ?_⟩⟩
  rw [e1]
  refine ⟨cf_in36 hs ht, nm_r (e' := nI c) (by rw [cf_cl hs ht, h3]) (br_f (nI_ge (a := c) (b := 1048576) (by omega) (by omega)) ⟨pk_in t 6 ht, nm_r rfl ⟨pk_in s 6 hs, br_t n2 ⟨2, ?_⟩⟩⟩)⟩
  refine ⟨pk_in t 6 ht, br_f n1 ⟨pk_in t 6 ht, nm_r e1 ⟨cf_in36 hs ht, cf_in36 hs ht, nm_r (e' := upd a2 (s * 6 + t) (nI 0)) ?_ ⟨cf_in36 ht hs, cf_in36 ht hs, nm_r (e' := upd (upd a2 (s * 6 + t) (nI 0)) (t * 6 + s) (a2 (t * 6 + s) + nI c)) ?_ ⟨pk_in t 6 ht, nm_r e1 ⟨pk_in s 6 hs, br_t n2 H⟩⟩⟩⟩⟩⟩
  · rw [cf_cl hs ht, h3, pk_sub (Nat.le_refl c), Nat.sub_self]
  · rw [cf_cl ht hs, pk_un hix.symm]
/-- the copy of the capacities, then the rounds -/
theorem cf_flow {post : Int32 → St2 → Prop} {f0 : Int32} {a1 a2 a3 a4 a5 a6 a7 a8 : Nat → Int32} {x1 x2 : Int32} (H : ∀ a2', (∀ j, j < 36 → a2' j = a1 j) → ∃ fu, wX_flow_31 post x1 x2 fu 0 0 f0 a1 a2' a3 a4 a5 a6 a7 a8) : wpX_flow post (f0, a1, a2, a3, a4, a5, a6, a7, a8) x1 x2 := by
  refine pk_loop (fun n j s => wX_flow_2 post x1 x2 f0 n (nI j) a1 s a3 a4 a5 a6 a7 a8) (fun j s => ∀ i, i < j → s i = a1 i) 36 0 a2 (by omega) (fun i hi => absurd hi (by omega)) ?_ ?_
  · intro n s h
    exact pk_le 36 36 (fun _ => H s h) (fun z => absurd z (by omega))
  · intro n j s hj h hw
    refine pk_le 36 j (fun z => absurd z (by omega)) (fun _ => ⟨pk_in j 36 hj, pk_in j 36 hj, nm_r (e' := upd s j (a1 j)) (by rw [nI_clamp (by omega)]) (nm_r (nI_1 j) (hw _ ?_))⟩)
    intro i hi
    by_cases e : i = j
    · subst e
      exact pk_us
    · rw [pk_un e]
      exact h i (by omega)
theorem cf_e_o {p q c j : Nat} (h : j ≠ q) (hpq : p ≠ q) : cf_e p q c p j = 0 := if_neg (by omega)
theorem cf_e_n {p q c i j : Nat} (h1 : i ≠ p) (h2 : i ≠ q) : cf_e p q c i j = 0 := if_neg (by omega)
theorem cf_e_pq {p q c : Nat} : cf_e p q c p q = c := if_pos (Or.inl ⟨rfl, rfl⟩)
theorem cf_e_qp {p q c : Nat} : cf_e p q c q p = c := if_pos (Or.inr ⟨rfl, rfl⟩)
/-- no link leads from s -/
theorem cf_flowA {post : Int32 → St2 → Prop} {f0 : Int32} {a1 a2 a3 a4 a5 a6 a7 a8 : Nat → Int32} {s t : Nat} (hs : s < 6) (hq : ∀ j, j < 6 → j ≠ s → a1 (s * 6 + j) = nI 0)
    (H : ∀ b2 b3 b4, post (nI 0) (nI (2 ^ s), a1, b2, b3, b4, a5, a6, a7, a8)) : wpX_flow post (f0, a1, a2, a3, a4, a5, a6, a7, a8) (nI (2 ^ s)) (nI (2 ^ t)) := by
  refine cf_flow (fun b2 hb => ⟨1, pk_le 128 0 (fun z => absurd z (by omega)) (fun _ => cf_spreadA hs ?_ ?_)⟩)
  · intro j hj h
    rw [hb _ (by omega), hq j hj h]
    decide
  · exact br_f (by decide) (H _ _ _)
/-- one link, from s to u, and the goal is elsewhere -/
theorem cf_flowU {post : Int32 → St2 → Prop} {f0 : Int32} {a1 a2 a3 a4 a5 a6 a7 a8 : Nat → Int32} {s t u c : Nat} (hs : s < 6) (ht : t < 6) (hu : u < 6) (hsu : s ≠ u) (htu : t ≠ u) (hE : cf_E s u c a1) (hc : 0 < c) (hc' : c ≤ 30)
    (H : ∀ b2 b3 b4, post (nI 0) (nI (2 ^ s ||| 2 ^ u), a1, b2, b3, b4, a5, a6, a7, a8)) : wpX_flow post (f0, a1, a2, a3, a4, a5, a6, a7, a8) (nI (2 ^ s)) (nI (2 ^ t)) := by
  refine cf_flow (fun b2 hb => ⟨1, pk_le 128 0 (fun z => absurd z (by omega)) (fun _ => cf_spreadU hs ht hu hsu htu ?_ ?_ ?_ ?_)⟩)
  · rw [hb _ (by omega), hE s u hs hu, cf_e_pq]
    exact nI_nle hc (by omega)
  · intro j hj h1 h2
    rw [hb _ (by omega), hE s j hs hj, cf_e_o h2 hsu]
    decide
  · intro j hj h1 h2
    rw [hb _ (by omega), cf_E_sw hE u j hu hj, cf_e_o h1 hsu.symm]
    decide
  · exact br_f (by decide) (H _ _ _)
/-- one link, from s to the goal -/
theorem cf_flowT {post : Int32 → St2 → Prop} {f0 : Int32} {a1 a2 a3 a4 a5 a6 a7 a8 : Nat → Int32} {s t c : Nat} (hs : s < 6) (ht : t < 6) (hst : s ≠ t) (hE : cf_E s t c a1) (hc : 0 < c) (hc' : c ≤ 30)
    (H : ∀ b2 b3 b4, post (nI c) (nI (2 ^ s), a1, b2, b3, b4, a5, a6, a7, a8)) : wpX_flow post (f0, a1, a2, a3, a4, a5, a6, a7, a8) (nI (2 ^ s)) (nI (2 ^ t)) := by
  refine cf_flow (fun b2 hb => ⟨2, pk_le 128 0 (fun z => absurd z (by omega)) (fun _ => cf_spreadT hs ht hst ?_ ?_ ?_)⟩)
  · rw [hb _ (by omega), hE s t hs ht, cf_e_pq]
    exact nI_nle hc (by omega)
  · intro j hj h1 h2
    rw [hb _ (by omega), hE s j hs hj, cf_e_o h2 hst]
    decide
  · refine br_t (nI_pos' (by omega)) (cf_push (s := s) (c := c) hs ht hst hc' pk_us ?_ ?_ ?_)
    · rw [pk_un hst, pk_us]
    · rw [hb _ (by omega), hE s t hs ht, cf_e_pq]
    · refine nm_r (e' := nI c) ?_ (nm_r (e' := nI 1) rfl (pk_le 128 1 (fun z => absurd z (by omega)) (fun _ => cf_spreadA hs ?_ ?_)))
      · show nI 0 + nI c = nI c
        rw [nI_add, Nat.zero_add]
      · intro j hj h1
        have i1 : s * 6 + j ≠ t * 6 + s := by omega
        rw [pk_un i1]
        by_cases e : j = t
        · subst e
          rw [pk_us]
          decide
        · have i2 : s * 6 + j ≠ s * 6 + t := by omega
          rw [pk_un i2, hb _ (by omega), hE s j hs hj, cf_e_o e hst]
          decide
      · exact br_f (by decide) (H _ _ _)
theorem cf_between {post : Int32 → St2 → Prop} {f0 : Int32} {a1 a2 a3 a4 a5 a6 a7 a8 : Nat → Int32} {x y : Int32} {p q c : Nat} (hpq : p ≠ q) (hp : p < 6) (hq : q < 6) (hc : c ≤ 30) (hE : cf_E p q c a1)
    (h1 : ∀ i j f b2 b3 b4, i < 6 → j < 6 → i ≠ j → x = nI i → y = nI j → post (nI (cf_e p q c i j)) (f, a1, b2, b3, b4, a5, a6, a7, a8))
    (h0 : ¬ (cf_P x ∧ cf_P y ∧ ¬ x = y) → post (-1) (f0, a1, a2, a3, a4, a5, a6, a7, a8)) : wpX_between post (f0, a1, a2, a3, a4, a5, a6, a7, a8) x y := by
  unfold wpX_between
  refine cf_pair (fun i j hi hj hij ex ey => br_f (by decide) ?_) (fun h => br_t rfl (h0 h))
  have h := fun f b2 b3 b4 => h1 i j f b2 b3 b4 hi hj hij ex ey
  subst ex
  subst ey
  rw [cf_sh i hi, cf_sh j hj]
  have key : ∀ o, o < 6 → i ≠ o → cf_E i o c a1 → (cf_e i o c i j = cf_e p q c i j) → 0 < c → wpX_flow (fun r_3 u => match u with | (f0_foundSet_4, am151_7, am152_10, am153_13, am154_16, am155_19, am156_22, am157_25, am158_28) => (post r_3 (f0_foundSet_4, am151_7, am152_10, am153_13, am154_16, am155_19, am156_22, am157_25, am158_28))) (f0, a1, a2, a3, a4, a5, a6, a7, a8) (nI (2 ^ i)) (nI (2 ^ j)) := by
    intro o ho hio hEo heq hc0
    by_cases hjo : j = o
    · subst hjo
      rw [cf_e_pq] at heq
      refine cf_flowT hi hj hij hEo hc0 hc (fun b2 b3 b4 => ?_)
      have h' := h (nI (2 ^ i)) b2 b3 b4
      rw [← heq] at h'
      exact h'
    · rw [cf_e_o hjo hio] at heq
      refine cf_flowU hi hj ho hio hjo hEo hc0 hc (fun b2 b3 b4 => ?_)
      have h' := h (nI (2 ^ i ||| 2 ^ o)) b2 b3 b4
      rw [← heq] at h'
      exact h'
  rcases Nat.eq_zero_or_pos c with hz | hz
  · subst hz
    refine cf_flowA hi (fun k hk _ => ?_) (fun b2 b3 b4 => ?_)
    · rw [hE i k hi hk]
      unfold cf_e
      rw [ite_self]
    · have h' := h (nI (2 ^ i)) b2 b3 b4
      unfold cf_e at h'
      rw [ite_self] at h'
      exact h'
  · by_cases hip : i = p
    · subst hip
      exact key q hq hpq hE rfl hz
    · by_cases hiq : i = q
      · subst hiq
        refine key p hp hpq.symm (cf_E_sw hE) ?_ hz
        unfold cf_e
        by_cases g : (i = i ∧ j = p) ∨ (i = p ∧ j = i)
        · rw [if_pos g, if_pos g.symm]
        · rw [if_neg g, if_neg (fun z => g z.symm)]
      · refine cf_flowA hi (fun k hk _ => ?_) (fun b2 b3 b4 => ?_)
        · rw [hE i k hi hk, cf_e_n hip hiq]
        · have h' := h (nI (2 ^ i)) b2 b3 b4
          rw [cf_e_n hip hiq] at h'
          exact h'
end
section
/-! the second print of spread, push, flow (written by gen_flow2.py out of part 02) -/
theorem cg_93q {post : Int32 → St2 → Prop} {J : Int32 → Int32 → Int32 → (Nat → Int32) → (Nat → Int32) → (Nat → Int32) → (Nat → Int32) → (Nat → Int32) → (Nat → Int32) → (Nat → Int32) → (Nat → Int32) → Prop} {x2 x4 x4' x3 : Int32} {a1 a2 a3 a4 a5 a6 a7 a8 : Nat → Int32} {v m : Nat} (hv : v < 6) (hm : m < 64) (hx : x4 + 1 = x4')
    (hq : ∀ j, j < 6 → m.testBit j = true ∨ a2 (v * 6 + j) ≤ 0) (H : J x3 x4' (nI m) a1 a2 a3 a4 a5 a6 a7 a8) : ∃ n, wX_spread_2_93 post J x2 x4 (nI v) n x3 0 (nI m) a1 a2 a3 a4 a5 a6 a7 a8 := by
  refine pk_loop (σ := Unit) (fun n j _ => wX_spread_2_93 post J x2 x4 (nI v) n x3 (nI j) (nI m) a1 a2 a3 a4 a5 a6 a7 a8) (fun _ _ => True) 6 0 () (by omega) trivial ?_ ?_
  · intro n _ _
    exact pk_le 6 6 (fun _ => nm_r hx H) (fun z => absurd z (by omega))
  · intro n j _ hj _ hw
    refine pk_le 6 j (fun z => absurd z (by omega)) (fun _ => cf_inb hm hj (fun hb => ⟨cf_in36 hv hj, br_t ?_ (nm_r (nI_1 j) (hw () trivial))⟩) (fun _ => nm_r (nI_1 j) (hw () trivial)))
    rw [cf_cl hv hj]
    rcases hq j hj with h | h
    · rw [hb] at h
      exact absurd h (by decide)
    · exact h
theorem cg_93f {post : Int32 → St2 → Prop} {J : Int32 → Int32 → Int32 → (Nat → Int32) → (Nat → Int32) → (Nat → Int32) → (Nat → Int32) → (Nat → Int32) → (Nat → Int32) → (Nat → Int32) → (Nat → Int32) → Prop} {x4 x4' : Int32} {a1 a2 a3 a4 a5 a6 a7 a8 : Nat → Int32} {v m u t e : Nat} (hv : v < 6) (hm : m < 64) (hu : u < 6) (ht : t < 6) (he : e < 8) (hx : x4 + 1 = x4')
    (hmu : m.testBit u = false) (hr : ¬ a2 (v * 6 + u) ≤ 0) (hq : ∀ j, j < 6 → j ≠ u → m.testBit j = true ∨ a2 (v * 6 + j) ≤ 0)
    (H1 : t = u → post (nI u) (nI (m ||| 2 ^ u), a1, a2, upd a3 u (nI v), upd a4 e (nI u), a5, a6, a7, a8))
    (H2 : t ≠ u → J (nI (e + 1)) x4' (nI (m ||| 2 ^ u)) a1 a2 (upd a3 u (nI v)) (upd a4 e (nI u)) a5 a6 a7 a8) : ∃ n, wX_spread_2_93 post J (nI (2 ^ t)) x4 (nI v) n (nI e) 0 (nI m) a1 a2 a3 a4 a5 a6 a7 a8 := by
  refine pk_loop (fun n j (s : Int32 × Int32 × (Nat → Int32) × (Nat → Int32)) => wX_spread_2_93 post J (nI (2 ^ t)) x4 (nI v) n s.1 (nI j) s.2.1 a1 a2 s.2.2.1 s.2.2.2 a5 a6 a7 a8)
    (fun j s => (j ≤ u ∧ s = (nI e, nI m, a3, a4)) ∨ (u < j ∧ t ≠ u ∧ s = (nI (e + 1), nI (m ||| 2 ^ u), upd a3 u (nI v), upd a4 e (nI u)))) 6 0 (nI e, nI m, a3, a4) (by omega) (Or.inl ⟨by omega, rfl⟩) ?_ ?_
  · intro n s h
    rcases h with ⟨h, _⟩ | ⟨_, h, hs⟩
    · exact absurd h (by omega)
    · subst hs
      exact pk_le 6 6 (fun _ => nm_r hx (H2 h)) (fun z => absurd z (by omega))
  · intro n j s hj h hw
    rcases h with ⟨h, hs⟩ | ⟨h, htu, hs⟩
    · subst hs
      refine pk_le 6 j (fun z => absurd z (by omega)) (fun _ => ?_)
      by_cases hju : j = u
      · subst hju
        refine cf_inb hm hj (fun _ => ⟨cf_in36 hv hj, br_f ?_ ?_⟩) (fun hb => ?_)
        · rw [cf_cl hv hj]
          exact hr
        · refine nm_r (cf_or m hm j hj) ⟨pk_in j 6 hj, nm_r (e' := upd a3 j (nI v)) ?_ ⟨pk_in e 8 he, nm_r (e' := upd a4 e (nI j)) ?_ (nm_r (nI_1 e) (cf_inb (cf_pl t ht) hj (fun hb => nm_r (nI_1 j) (hw (_, _, _, _) ?_)) (fun hb => H1 ?_)))⟩⟩
          · rw [nI_clamp (by omega), cf_b8 v hv]
          · rw [nI_clamp (by omega), cf_b8 j hj]
          · refine Or.inr ⟨by omega, ?_, rfl⟩
            intro z
            subst z
            rw [Nat.testBit_two_pow_self] at hb
            exact absurd hb (by decide)
          · rw [Nat.testBit_two_pow] at hb
            exact of_decide_eq_true hb
        · rw [hmu] at hb
          exact absurd hb (by decide)
      · refine cf_inb hm hj (fun hb => ⟨cf_in36 hv hj, br_t ?_ (nm_r (nI_1 j) (hw _ (Or.inl ⟨by omega, rfl⟩)))⟩) (fun _ => nm_r (nI_1 j) (hw _ (Or.inl ⟨by omega, rfl⟩)))
        rw [cf_cl hv hj]
        rcases hq j hj hju with h' | h'
        · rw [hb] at h'
          exact absurd h' (by decide)
        · exact h'
    · subst hs
      refine pk_le 6 j (fun z => absurd z (by omega)) (fun _ => ?_)
      refine cf_inb (cf_ol m hm u hu) hj (fun hb => ⟨cf_in36 hv hj, br_t ?_ (nm_r (nI_1 j) (hw _ (Or.inr ⟨by omega, htu, rfl⟩)))⟩) (fun _ => nm_r (nI_1 j) (hw _ (Or.inr ⟨by omega, htu, rfl⟩)))
      rw [cf_cl hv hj]
      rcases hq j hj (by omega) with h' | h'
      · rw [Nat.testBit_or, h'] at hb
        exact absurd hb (by simp)
      · exact h'
theorem cg_spread {post : Int32 → St2 → Prop} {f0 : Int32} {a1 a2 a3 a4 a5 a6 a7 a8 : Nat → Int32} {s t : Nat} (hs : s < 6) (H : ∃ fu, wX_spread_2_68 post (nI (2 ^ t)) fu (nI 1) 0 (nI (2 ^ s)) a1 a2 (upd a3 s (-1)) (upd a4 0 (nI s)) a5 a6 a7 a8) : wpX_spread_2 post (f0, a1, a2, a3, a4, a5, a6, a7, a8) (nI (2 ^ s)) (nI (2 ^ t)) := by
  refine pk_loop (fun n j (z : Int32 × Int32 × (Nat → Int32) × (Nat → Int32)) => wX_spread_2_10 post (nI (2 ^ s)) (nI (2 ^ t)) n z.1 (nI j) z.2.1 a1 a2 z.2.2.1 z.2.2.2 a5 a6 a7 a8)
    (fun j z => (j ≤ s ∧ z = (nI 0, nI 0, a3, a4)) ∨ (s < j ∧ z = (nI 1, nI (2 ^ s), upd a3 s (-1), upd a4 0 (nI s)))) 6 0 (nI 0, nI 0, a3, a4) (by omega) (Or.inl ⟨by omega, rfl⟩) ?_ ?_
  · intro n z h
    rcases h with ⟨h, _⟩ | ⟨_, hz⟩
    · exact absurd h (by omega)
    · subst hz
      exact pk_le 6 6 (fun _ => H) (fun z => absurd z (by omega))
  · intro n j z hj h hw
    refine pk_le 6 j (fun z => absurd z (by omega)) (fun _ => cf_inb (cf_pl s hs) hj (fun hb => nm_r (nI_1 j) (hw _ ?_)) (fun hb => ?_))
    · have hsj : s ≠ j := by
        intro e
        subst e
        rw [Nat.testBit_two_pow_self] at hb
        exact absurd hb (by decide)
      rcases h with ⟨h, hz⟩ | ⟨h, hz⟩
      · exact Or.inl ⟨by omega, hz⟩
      · exact Or.inr ⟨by omega, hz⟩
    · rw [Nat.testBit_two_pow] at hb
      have e : s = j := of_decide_eq_true hb
      rcases h with ⟨_, hz⟩ | ⟨h, _⟩
      · subst hz
        subst e
        refine nm_r (e' := nI (2 ^ s)) ?_ ⟨pk_in s 6 hs, nm_r (e' := upd a3 s (-1)) ?_ ⟨pk_in 0 8 (by omega), nm_r (e' := upd a4 0 (nI s)) ?_ (nm_r (e' := nI 1) rfl (nm_r (nI_1 s) (hw _ (Or.inr ⟨by omega, rfl⟩))))⟩⟩
        · show nI 0 ||| (1 : Int32) <<< (nI s &&& 31) = nI (2 ^ s)
          rw [cf_or 0 (by omega) s hs, Nat.zero_or]
        · rw [nI_clamp (by omega)]
        · show upd a4 (nI 0).toNatClampNeg (nI s).toInt8.toInt32 = _
          rw [nI_clamp (by omega), cf_b8 s hs]
      · exact absurd h (by omega)
/-- nothing leads away from s -/
theorem cg_spreadA {post : Int32 → St2 → Prop} {f0 : Int32} {a1 a2 a3 a4 a5 a6 a7 a8 : Nat → Int32} {s t : Nat} (hs : s < 6) (hq : ∀ j, j < 6 → j ≠ s → a2 (s * 6 + j) ≤ 0)
    (H : post (-1) (nI (2 ^ s), a1, a2, upd a3 s (-1), upd a4 0 (nI s), a5, a6, a7, a8)) : wpX_spread_2 post (f0, a1, a2, a3, a4, a5, a6, a7, a8) (nI (2 ^ s)) (nI (2 ^ t)) := by
  refine cg_spread hs ⟨2, pk_le 1 0 (fun z => absurd z (by omega)) (fun _ => pk_le 6 0 (fun z => absurd z (by omega)) (fun _ => ⟨pk_in 0 8 (by omega), nm_r (e' := nI s) rfl (cg_93q (x4' := nI 1) hs (cf_pl s hs) rfl ?_ ?_)⟩))⟩
  · intro j hj
    by_cases e : j = s
    · subst e
      exact Or.inl Nat.testBit_two_pow_self
    · exact Or.inr (hq j hj e)
  · exact pk_le 1 1 (fun _ => H) (fun z => absurd z (by omega))
/-- one link leads from s, to the goal -/
theorem cg_spreadT {post : Int32 → St2 → Prop} {f0 : Int32} {a1 a2 a3 a4 a5 a6 a7 a8 : Nat → Int32} {s t : Nat} (hs : s < 6) (ht : t < 6) (hst : s ≠ t) (hr : ¬ a2 (s * 6 + t) ≤ 0) (hq : ∀ j, j < 6 → j ≠ s → j ≠ t → a2 (s * 6 + j) ≤ 0)
    (H : post (nI t) (nI (2 ^ s ||| 2 ^ t), a1, a2, upd (upd a3 s (-1)) t (nI s), upd (upd a4 0 (nI s)) 1 (nI t), a5, a6, a7, a8)) : wpX_spread_2 post (f0, a1, a2, a3, a4, a5, a6, a7, a8) (nI (2 ^ s)) (nI (2 ^ t)) := by
  refine cg_spread hs ⟨1, pk_le 1 0 (fun z => absurd z (by omega)) (fun _ => pk_le 6 0 (fun z => absurd z (by omega)) (fun _ => ⟨pk_in 0 8 (by omega), nm_r (e' := nI s) rfl (cg_93f (x4' := nI 1) (e := 1) hs (cf_pl s hs) ht ht (by omega) rfl ?_ hr ?_ (fun _ => H) (fun z => absurd rfl z))⟩))⟩
  · rw [Nat.testBit_two_pow_of_ne hst]
  · intro j hj h
    by_cases e : j = s
    · subst e
      exact Or.inl Nat.testBit_two_pow_self
    · exact Or.inr (hq j hj e h)
/-- one link leads from s, to u, and none on from there -/
theorem cg_spreadU {post : Int32 → St2 → Prop} {f0 : Int32} {a1 a2 a3 a4 a5 a6 a7 a8 : Nat → Int32} {s t u : Nat} (hs : s < 6) (ht : t < 6) (hu : u < 6) (hsu : s ≠ u) (htu : t ≠ u) (hr : ¬ a2 (s * 6 + u) ≤ 0) (hq : ∀ j, j < 6 → j ≠ s → j ≠ u → a2 (s * 6 + j) ≤ 0) (hq2 : ∀ j, j < 6 → j ≠ s → j ≠ u → a2 (u * 6 + j) ≤ 0)
    (H : post (-1) (nI (2 ^ s ||| 2 ^ u), a1, a2, upd (upd a3 s (-1)) u (nI s), upd (upd a4 0 (nI s)) 1 (nI u), a5, a6, a7, a8)) : wpX_spread_2 post (f0, a1, a2, a3, a4, a5, a6, a7, a8) (nI (2 ^ s)) (nI (2 ^ t)) := by
  refine cg_spread hs ⟨3, pk_le 1 0 (fun z => absurd z (by omega)) (fun _ => pk_le 6 0 (fun z => absurd z (by omega)) (fun _ => ⟨pk_in 0 8 (by omega), nm_r (e' := nI s) rfl (cg_93f (x4' := nI 1) (e := 1) hs (cf_pl s hs) hu ht (by omega) rfl ?_ hr ?_ (fun z => absurd z htu) (fun _ => ?_))⟩))⟩
  · rw [Nat.testBit_two_pow_of_ne hsu]
  · intro j hj h
    by_cases e : j = s
    · subst e
      exact Or.inl Nat.testBit_two_pow_self
    · exact Or.inr (hq j hj e h)
  · refine pk_le 2 1 (fun z => absurd z (by omega)) (fun _ => pk_le 6 1 (fun z => absurd z (by omega)) (fun _ => ⟨pk_in 1 8 (by omega), nm_r (e' := nI u) rfl (cg_93q (x4' := nI 2) hu (cf_ol _ (cf_pl s hs) u hu) rfl ?_ ?_)⟩))
    · intro j hj
      by_cases e : j = s
      · subst e
        refine Or.inl ?_
        rw [Nat.testBit_or, Nat.testBit_two_pow_self, Bool.true_or]
      · by_cases e2 : j = u
        · subst e2
          refine Or.inl ?_
          rw [Nat.testBit_or, Nat.testBit_two_pow_self, Bool.or_true]
        · exact Or.inr (hq2 j hj e e2)
    · exact pk_le 2 2 (fun _ => H) (fun z => absurd z (by omega))
/-- a way of one link, from s to t -/
theorem cg_push {post : Int32 → St2 → Prop} {f0 : Int32} {a1 a2 a3 a4 a5 a6 a7 a8 : Nat → Int32} {s t c : Nat} (hs : s < 6) (ht : t < 6) (hst : s ≠ t) (hc : c ≤ 30) (h1 : a3 t = nI s) (h2 : a3 s = -1) (h3 : a2 (s * 6 + t) = nI c)
    (H : post (nI c) (f0, a1, upd (upd a2 (s * 6 + t) (nI 0)) (t * 6 + s) (a2 (t * 6 + s) + nI c), a3, a4, a5, a6, a7, a8)) : wpX_push_2 post (f0, a1, a2, a3, a4, a5, a6, a7, a8) (nI t) := by
  have c1 : (nI t).toNatClampNeg = t := nI_clamp (by omega)
  have c2 : (nI s).toNatClampNeg = s := nI_clamp (by omega)
  have n1 : ¬ a3 (nI t).toNatClampNeg < 0 := by
    rw [c1, h1]
    exact nI_pos (by omega)
  have n2 : a3 (nI s).toNatClampNeg < 0 := by
    rw [c2, h2]
    decide
  have e1 : a3 (nI t).toNatClampNeg = nI s := by rw [c1, h1]
  have hix : s * 6 + t ≠ t * 6 + s := by omega
  refine ⟨2, pk_in t 6 ht, br_f n1 ⟨pk_in t 6 ht, ?_⟩⟩
  rw [e1]
  refine ⟨cf_in36 hs ht, nm_r (e' := nI c) (by rw [cf_cl hs ht, h3]) (br_f (nI_ge (a := c) (b := 1048576) (by omega) (by omega)) ⟨pk_in t 6 ht, nm_r rfl ⟨pk_in s 6 hs, br_t n2 ⟨2, ?_⟩⟩⟩)⟩
  refine ⟨pk_in t 6 ht, br_f n1 ⟨pk_in t 6 ht, nm_r e1 ⟨cf_in36 hs ht, cf_in36 hs ht, nm_r (e' := upd a2 (s * 6 + t) (nI 0)) ?_ ⟨cf_in36 ht hs, cf_in36 ht hs, nm_r (e' := upd (upd a2 (s * 6 + t) (nI 0)) (t * 6 + s) (a2 (t * 6 + s) + nI c)) ?_ ⟨pk_in t 6 ht, nm_r e1 ⟨pk_in s 6 hs, br_t n2 H⟩⟩⟩⟩⟩⟩
  · rw [cf_cl hs ht, h3, pk_sub (Nat.le_refl c), Nat.sub_self]
  · rw [cf_cl ht hs, pk_un hix.symm]
/-- the copy of the capacities, then the rounds -/
theorem cg_flow {post : Int32 → St2 → Prop} {f0 : Int32} {a1 a2 a3 a4 a5 a6 a7 a8 : Nat → Int32} {x1 x2 : Int32} (H : ∀ a2', (∀ j, j < 36 → a2' j = a1 j) → ∃ fu, wX_flow_2_31 post x1 x2 fu 0 0 f0 a1 a2' a3 a4 a5 a6 a7 a8) : wpX_flow_2 post (f0, a1, a2, a3, a4, a5, a6, a7, a8) x1 x2 := by
  refine pk_loop (fun n j s => wX_flow_2_2 post x1 x2 f0 n (nI j) a1 s a3 a4 a5 a6 a7 a8) (fun j s => ∀ i, i < j → s i = a1 i) 36 0 a2 (by omega) (fun i hi => absurd hi (by omega)) ?_ ?_
  · intro n s h
    exact pk_le 36 36 (fun _ => H s h) (fun z => absurd z (by omega))
  · intro n j s hj h hw
    refine pk_le 36 j (fun z => absurd z (by omega)) (fun _ => ⟨pk_in j 36 hj, pk_in j 36 hj, nm_r (e' := upd s j (a1 j)) (by rw [nI_clamp (by omega)]) (nm_r (nI_1 j) (hw _ ?_))⟩)
    intro i hi
    by_cases e : i = j
    · subst e
      exact pk_us
    · rw [pk_un e]
      exact h i (by omega)
/-- no link leads from s -/
theorem cg_flowA {post : Int32 → St2 → Prop} {f0 : Int32} {a1 a2 a3 a4 a5 a6 a7 a8 : Nat → Int32} {s t : Nat} (hs : s < 6) (hq : ∀ j, j < 6 → j ≠ s → a1 (s * 6 + j) = nI 0)
    (H : ∀ b2 b3 b4, post (nI 0) (nI (2 ^ s), a1, b2, b3, b4, a5, a6, a7, a8)) : wpX_flow_2 post (f0, a1, a2, a3, a4, a5, a6, a7, a8) (nI (2 ^ s)) (nI (2 ^ t)) := by
  refine cg_flow (fun b2 hb => ⟨1, pk_le 128 0 (fun z => absurd z (by omega)) (fun _ => cg_spreadA hs ?_ ?_)⟩)
  · intro j hj h
    rw [hb _ (by omega), hq j hj h]
    decide
  · exact br_f (by decide) (H _ _ _)
/-- one link, from s to u, and the goal is elsewhere -/
theorem cg_flowU {post : Int32 → St2 → Prop} {f0 : Int32} {a1 a2 a3 a4 a5 a6 a7 a8 : Nat → Int32} {s t u c : Nat} (hs : s < 6) (ht : t < 6) (hu : u < 6) (hsu : s ≠ u) (htu : t ≠ u) (hE : cf_E s u c a1) (hc : 0 < c) (hc' : c ≤ 30)
    (H : ∀ b2 b3 b4, post (nI 0) (nI (2 ^ s ||| 2 ^ u), a1, b2, b3, b4, a5, a6, a7, a8)) : wpX_flow_2 post (f0, a1, a2, a3, a4, a5, a6, a7, a8) (nI (2 ^ s)) (nI (2 ^ t)) := by
  refine cg_flow (fun b2 hb => ⟨1, pk_le 128 0 (fun z => absurd z (by omega)) (fun _ => cg_spreadU hs ht hu hsu htu ?_ ?_ ?_ ?_)⟩)
  · rw [hb _ (by omega), hE s u hs hu, cf_e_pq]
    exact nI_nle hc (by omega)
  · intro j hj h1 h2
    rw [hb _ (by omega), hE s j hs hj, cf_e_o h2 hsu]
    decide
  · intro j hj h1 h2
    rw [hb _ (by omega), cf_E_sw hE u j hu hj, cf_e_o h1 hsu.symm]
    decide
  · exact br_f (by decide) (H _ _ _)
/-- one link, from s to the goal -/
theorem cg_flowT {post : Int32 → St2 → Prop} {f0 : Int32} {a1 a2 a3 a4 a5 a6 a7 a8 : Nat → Int32} {s t c : Nat} (hs : s < 6) (ht : t < 6) (hst : s ≠ t) (hE : cf_E s t c a1) (hc : 0 < c) (hc' : c ≤ 30)
    (H : ∀ b2 b3 b4, post (nI c) (nI (2 ^ s), a1, b2, b3, b4, a5, a6, a7, a8)) : wpX_flow_2 post (f0, a1, a2, a3, a4, a5, a6, a7, a8) (nI (2 ^ s)) (nI (2 ^ t)) := by
  refine cg_flow (fun b2 hb => ⟨2, pk_le 128 0 (fun z => absurd z (by omega)) (fun _ => cg_spreadT hs ht hst ?_ ?_ ?_)⟩)
  · rw [hb _ (by omega), hE s t hs ht, cf_e_pq]
    exact nI_nle hc (by omega)
  · intro j hj h1 h2
    rw [hb _ (by omega), hE s j hs hj, cf_e_o h2 hst]
    decide
  · refine br_t (nI_pos' (by omega)) (cg_push (s := s) (c := c) hs ht hst hc' pk_us ?_ ?_ ?_)
    · rw [pk_un hst, pk_us]
    · rw [hb _ (by omega), hE s t hs ht, cf_e_pq]
    · refine nm_r (e' := nI c) ?_ (nm_r (e' := nI 1) rfl (pk_le 128 1 (fun z => absurd z (by omega)) (fun _ => cg_spreadA hs ?_ ?_)))
      · show nI 0 + nI c = nI c
        rw [nI_add, Nat.zero_add]
      · intro j hj h1
        have i1 : s * 6 + j ≠ t * 6 + s := by omega
        rw [pk_un i1]
        by_cases e : j = t
        · subst e
          rw [pk_us]
          decide
        · have i2 : s * 6 + j ≠ s * 6 + t := by omega
          rw [pk_un i2, hb _ (by omega), hE s j hs hj, cf_e_o e hst]
          decide
      · exact br_f (by decide) (H _ _ _)
end
section
/-! a tree of cuts: grow, onTree, group -/
theorem cf_64 {post : St2 → Prop} {J : Int32 → Int32 → (Nat → Int32) → (Nat → Int32) → (Nat → Int32) → (Nat → Int32) → (Nat → Int32) → (Nat → Int32) → (Nat → Int32) → (Nat → Int32) → Prop} {a1 a2 a3 a4 a5 a6 a7 a8 : Nat → Int32} {m i : Nat} {tp : Int32} (hm : m < 64) (hi : i < 6)
    (H : ∀ b7, (∀ j, j < 6 → i < j → m.testBit j = true → a7 j = tp → b7 j = nI i) → (∀ j, j < 6 → ¬ (i < j ∧ m.testBit j = true ∧ a7 j = tp) → b7 j = a7 j) → J (nI (i + 1)) (nI m) a1 a2 a3 a4 a5 a6 b7 a8) : ∃ n, wX_grow_64 post J (nI i) tp (nI m) n (nI (i + 1)) a1 a2 a3 a4 a5 a6 a7 a8 := by
  refine pk_loop (fun n k s => wX_grow_64 post J (nI i) tp (nI m) n (nI k) a1 a2 a3 a4 a5 a6 s a8)
    (fun k s => i < k ∧ (∀ j, j < 6 → i < j → j < k → m.testBit j = true → a7 j = tp → s j = nI i) ∧ (∀ j, j < 6 → ¬ (i < j ∧ j < k ∧ m.testBit j = true ∧ a7 j = tp) → s j = a7 j)) 6 (i + 1) a7 (by omega) ⟨by omega, fun j _ h1 h2 => absurd h1 (by omega), fun _ _ _ => rfl⟩ ?_ ?_
  · intro n s ⟨_, h1, h2⟩
    exact pk_le 6 6 (fun _ => nm_r (nI_1 i) (H s (fun j hj g1 g2 g3 => h1 j hj g1 hj g2 g3) (fun j hj g => h2 j hj (fun z => g ⟨z.1, z.2.2.1, z.2.2.2⟩)))) (fun z => absurd z (by omega))
  · intro n k s hk ⟨h0, h1, h2⟩ hw
    have hsk : s k = a7 k := h2 k hk (fun z => absurd z.2.1 (by omega))
    have quiet : ¬ (m.testBit k = true ∧ a7 k = tp) → i < k + 1 ∧ (∀ j, j < 6 → i < j → j < k + 1 → m.testBit j = true → a7 j = tp → s j = nI i) ∧ (∀ j, j < 6 → ¬ (i < j ∧ j < k + 1 ∧ m.testBit j = true ∧ a7 j = tp) → s j = a7 j) := by
      intro hn
      refine ⟨by omega, fun j hj g1 g2 g3 g4 => ?_, fun j hj g => h2 j hj (fun z => g ⟨z.1, by omega, z.2.2.1, z.2.2.2⟩)⟩
      by_cases e : j = k
      · subst e
        exact absurd ⟨g3, g4⟩ hn
      · exact h1 j hj g1 (by omega) g3 g4
    refine pk_le 6 k (fun z => absurd z (by omega)) (fun _ => cf_inb hm hk (fun hb => nm_r (nI_1 k) (hw _ (quiet (fun z => ?_)))) (fun hb => ⟨pk_in k 6 hk, br_c (fun g => ⟨pk_in k 6 hk, nm_r (e' := upd s k (nI i)) ?_ (nm_r (nI_1 k) (hw _ ?_))⟩) (fun g => nm_r (nI_1 k) (hw _ (quiet (fun z => ?_))))⟩))
    · rw [hb] at z
      exact absurd z.1 (by decide)
    · rw [nI_clamp (by omega), cf_b8 i hi]
    · rw [nI_clamp (by omega), hsk] at g
      refine ⟨by omega, fun j hj g1 g2 g3 g4 => ?_, fun j hj g' => ?_⟩
      · by_cases e : j = k
        · subst e
          exact pk_us
        · rw [pk_un e]
          exact h1 j hj g1 (by omega) g3 g4
      · by_cases e : j = k
        · subst e
          exact absurd ⟨h0, by omega, hb, g⟩ g'
        · rw [pk_un e]
          exact h2 j hj (fun z => g' ⟨z.1, by omega, z.2.2.1, z.2.2.2⟩)
    · rw [nI_clamp (by omega), hsk] at g
      exact g z.2
theorem cf_gflow {post : Int32 → St2 → Prop} {f0 : Int32} {a1 a2 a3 a4 a5 a6 a7 a8 : Nat → Int32} {p q c i : Nat} (hpq : p < q) (hq : q < 6) (hi : i < 6) (hi0 : 0 < i) (hc : c ≤ 30) (hcp : c = 0 → p = 0) (hE : cf_E p q c a1)
    (H : ∀ m b2 b3 b4, m < 64 → (∀ j, i < j → j < 6 → ¬ (i = p ∧ j = q) → m.testBit j = false) → (i = p → m.testBit q = true) → post (nI (if i = q then c else 0)) (nI m, a1, b2, b3, b4, a5, a6, a7, a8)) :
    wpX_flow_2 post (f0, a1, a2, a3, a4, a5, a6, a7, a8) (nI (2 ^ i)) (nI (2 ^ (if i = q then p else 0))) := by
  have one : ∀ j, i < j → j < 6 → ¬ (i = p ∧ j = q) → (2 ^ i).testBit j = false := fun j h1 _ _ => Nat.testBit_two_pow_of_ne (by omega)
  by_cases e : i = q
  · subst e
    rw [if_pos rfl]
    rw [if_pos rfl] at H
    rcases Nat.eq_zero_or_pos c with hz | hz
    · subst hz
      refine cg_flowA hi (fun k hk _ => ?_) (fun b2 b3 b4 => H _ b2 b3 b4 (cf_pl i hi) one (fun z => absurd z (by omega)))
      rw [hE i k hi hk]
      unfold cf_e
      rw [ite_self]
    · exact cg_flowT hi (by omega) (by omega) (cf_E_sw hE) hz hc (fun b2 b3 b4 => H _ b2 b3 b4 (cf_pl i hi) one (fun z => absurd z (by omega)))
  · rw [if_neg e]
    rw [if_neg e] at H
    by_cases e2 : i = p
    · subst e2
      refine cg_flowU hi (by omega) hq (by omega) (by omega) hE (by omega) hc (fun b2 b3 b4 => H _ b2 b3 b4 (cf_ol _ (cf_pl i hi) q hq) (fun j h1 h2 h3 => ?_) (fun _ => ?_))
      · rw [Nat.testBit_or, Nat.testBit_two_pow_of_ne (show i ≠ j by omega), Nat.testBit_two_pow_of_ne (show q ≠ j by omega)]
        rfl
      · rw [Nat.testBit_or, Nat.testBit_two_pow_self, Bool.or_true]
    · refine cg_flowA hi (fun k hk _ => ?_) (fun b2 b3 b4 => H _ b2 b3 b4 (cf_pl i hi) one (fun z => absurd z e2))
      rw [hE i k hi hk, cf_e_n e2 e]
/-- what stands above each place while place i is cut off -/
def cf_up (p q i j : Nat) : Nat := if j = q ∧ p < i then p else 0
def cf_u (p q j : Nat) : Nat := if j = q then p else 0
def cf_s (q c j : Nat) : Nat := if j = q then c else 0
theorem cf_grow {post : St2 → Prop} {f0 : Int32} {a1 a2 a3 a4 a5 a6 a7 a8 : Nat → Int32} {p q c : Nat} (hpq : p < q) (hq : q < 6) (hc : c ≤ 30) (hcp : c = 0 → p = 0) (hE : cf_E p q c a1)
    (H : ∀ f b2 b3 b4 b7 b8, (∀ j, j < 6 → b7 j = nI (cf_u p q j)) → (∀ j, 0 < j → j < 6 → b8 j = nI (cf_s q c j)) → post (f, a1, b2, b3, b4, a5, a6, b7, b8)) : wpX_grow post (f0, a1, a2, a3, a4, a5, a6, a7, a8) := by
  refine pk_loop (fun n j (s : (Nat → Int32) × (Nat → Int32)) => wX_grow_2 post f0 n (nI j) a1 a2 a3 a4 a5 a6 s.1 s.2) (fun j s => ∀ i, i < j → s.1 i = nI 0) 6 0 (a7, a8) (by omega) (fun i hi => absurd hi (by omega)) ?_ ?_
  · intro n s h
    refine pk_le 6 6 (fun _ => ?_) (fun z => absurd z (by omega))
    refine pk_loop (fun n j (s : Int32 × (Nat → Int32) × (Nat → Int32) × (Nat → Int32) × (Nat → Int32) × (Nat → Int32)) => wX_grow_31 post n (nI j) s.1 a1 s.2.1 s.2.2.1 s.2.2.2.1 a5 a6 s.2.2.2.2.1 s.2.2.2.2.2)
      (fun i s => 0 < i ∧ (∀ j, j < 6 → s.2.2.2.2.1 j = nI (cf_up p q i j)) ∧ (∀ j, 0 < j → j < i → j < 6 → s.2.2.2.2.2 j = nI (cf_s q c j))) 6 1 (f0, a2, a3, a4, s.1, s.2) (by omega) ⟨by omega, fun j hj => ?_, fun j h1 h2 => absurd h1 (by omega)⟩ ?_ ?_
    · show s.1 j = _
      rw [h j hj]
      unfold cf_up
      congr 1
      split
      · omega
      · rfl
    · intro n s ⟨_, h7, h8⟩
      refine pk_le 6 6 (fun _ => H _ _ _ _ _ _ (fun j hj => ?_) (fun j h0 hj => h8 j h0 hj hj)) (fun z => absurd z (by omega))
      rw [h7 j hj]
      unfold cf_up cf_u
      congr 1
      split
      · rw [if_pos (by omega)]
      · rw [if_neg (by omega)]
    · intro n i s hi ⟨hi0, h7, h8⟩ hw
      obtain ⟨f, b2, b3, b4, b7, b8⟩ := s
      have h7' : ∀ j, j < 6 → b7 j = nI (cf_up p q i j) := h7
      have h8' : ∀ j, 0 < j → j < i → j < 6 → b8 j = nI (cf_s q c j) := h8
      have htp : cf_up p q i i = if i = q then p else 0 := by
        unfold cf_up
        by_cases e : i = q
        · rw [if_pos (by omega), if_pos e]
        · rw [if_neg (by omega), if_neg e]
      have htp6 : (if i = q then p else 0) < 6 := by split <;> omega
      have hx2 : b7 (nI i).toNatClampNeg = nI (if i = q then p else 0) := by rw [nI_clamp (by omega), h7' i hi, htp]
      refine pk_le 6 i (fun z => absurd z (by omega)) (fun _ => ⟨pk_in i 6 hi, nm_r hx2 ?_⟩)
      dsimp only
      rw [cf_sh i hi, cf_sh _ htp6]
      refine cf_gflow hpq hq hi hi0 hc hcp hE (fun m c2 c3 c4 hm k1 k2 => ⟨pk_in i 6 hi, nm_r (e' := upd b8 i (nI (cf_s q c i))) ?_ (nm_r (nI_1 i) (cf_64 hm hi (fun d7 g1 g2 => hw (nI m, c2, c3, c4, d7, upd b8 i (nI (cf_s q c i))) ⟨by omega, fun j hj => ?_, fun j j0 j1 j6 => ?_⟩)))⟩)
      · rw [nI_clamp (by omega)]
        rfl
      · show d7 j = nI (cf_up p q (i + 1) j)
        by_cases g : i < j ∧ m.testBit j = true ∧ b7 j = nI (if i = q then p else 0)
        · rw [g1 j hj g.1 g.2.1 g.2.2]
          have hpj : i = p ∧ j = q := by
            by_cases z : i = p ∧ j = q
            · exact z
            · have := k1 j g.1 hj z
              rw [g.2.1] at this
              exact absurd this (by decide)
          unfold cf_up
          rw [if_pos (by omega), hpj.1]
        · rw [g2 j hj g, show (nI m, a1, c2, c3, c4, a5, a6, b7, b8).2.2.2.2.2.2.2.fst j = nI (cf_up p q i j) from h7' j hj]
          unfold cf_up
          by_cases z : j = q ∧ p < i
          · rw [if_pos z, if_pos (by omega)]
          · rw [if_neg z]
            by_cases y : j = q ∧ p = i
            · exfalso
              refine g ⟨by omega, ?_, ?_⟩
              · rw [y.1]
                exact k2 y.2.symm
              · rw [h7' j hj]
                unfold cf_up
                rw [if_neg z, if_neg (by omega)]
            · rw [if_neg (by omega)]
      · show upd b8 i (nI (cf_s q c i)) j = nI (cf_s q c j)
        by_cases e : j = i
        · subst e
          exact pk_us
        · rw [pk_un e]
          exact h8' j j0 (by omega) j6
  · intro n j s hj h hw
    refine pk_le 6 j (fun z => absurd z (by omega)) (fun _ => ⟨pk_in j 6 hj, nm_r (e' := upd s.1 j (nI 0)) ?_ ⟨pk_in j 6 hj, nm_e (nm_r (nI_1 j) (hw (_, _) ?_))⟩⟩)
    · rw [nI_clamp (by omega)]
      rfl
    · intro i hi
      show upd s.1 j (nI 0) i = nI 0
      by_cases e : i = j
      · subst e
        exact pk_us
      · rw [pk_un e]
        exact h i (by omega)
/-- one step on the way up -/
theorem cf_ots {post : Int32 → Prop} {f0 : Int32} {a1 a2 a3 a4 a5 a6 a7 a8 : Nat → Int32} {p q c x y l k n : Nat} (hc : c ≤ 30) (h7 : ∀ j, j < 6 → a7 j = nI (cf_u p q j)) (h8 : ∀ j, 0 < j → j < 6 → a8 j = nI (cf_s q c j)) (hx : x < 6) (hy : y < 6) (hxy : x ≠ y) (hk : k < 12) (hl : l ≤ 1048576)
    (H : x < y → wX_onTree_12 post f0 a1 a2 a3 a4 a5 a6 a7 a8 n (nI x) (nI (cf_u p q y)) (nI (min l (cf_s q c y))) (nI (k + 1)))
    (H' : y < x → wX_onTree_12 post f0 a1 a2 a3 a4 a5 a6 a7 a8 n (nI (cf_u p q x)) (nI y) (nI (min l (cf_s q c x))) (nI (k + 1))) :
    wX_onTree_12 post f0 a1 a2 a3 a4 a5 a6 a7 a8 (n + 1) (nI x) (nI y) (nI l) (nI k) := by
  have hs : ∀ j, cf_s q c j ≤ 30 := by
    intro j
    unfold cf_s
    split <;> omega
  refine pk_le 12 k (fun z => absurd z (by omega)) (fun _ => pk_eq x y (fun z => absurd z hxy) (fun _ => pk_le x y (fun z => ?_) (fun z => ?_)))
  · have hlt : x < y := by omega
    have e8 : a8 (nI y).toNatClampNeg = nI (cf_s q c y) := by rw [nI_clamp (by omega), h8 y (by omega) hy]
    have e7 : a7 (nI y).toNatClampNeg = nI (cf_u p q y) := by rw [nI_clamp (by omega), h7 y hy]
    have h := H hlt
    have hb := hs y
    refine ⟨pk_in y 6 hy, pk_le l (cf_s q c y) (fun g => ?_) (fun g => ⟨pk_in y 6 hy, ?_⟩) rfl e8 (by omega) (by omega)⟩
    · rw [Nat.min_eq_left g] at h
      exact ⟨pk_in y 6 hy, nm_r e7 (nm_r (nI_1 k) h)⟩
    · rw [Nat.min_eq_right (by omega)] at h
      rw [e8]
      exact ⟨pk_in y 6 hy, nm_r e7 (nm_r (nI_1 k) h)⟩
  · have e8 : a8 (nI x).toNatClampNeg = nI (cf_s q c x) := by rw [nI_clamp (by omega), h8 x (by omega) hx]
    have e7 : a7 (nI x).toNatClampNeg = nI (cf_u p q x) := by rw [nI_clamp (by omega), h7 x hx]
    have h := H' z
    have hb := hs x
    refine ⟨pk_in x 6 hx, pk_le l (cf_s q c x) (fun g => ?_) (fun g => ⟨pk_in x 6 hx, ?_⟩) rfl e8 (by omega) (by omega)⟩
    · rw [Nat.min_eq_left g] at h
      exact ⟨pk_in x 6 hx, nm_r e7 (nm_r (nI_1 k) h)⟩
    · rw [Nat.min_eq_right (by omega)] at h
      rw [e8]
      exact ⟨pk_in x 6 hx, nm_r e7 (nm_r (nI_1 k) h)⟩
theorem cf_ult {p q j : Nat} (hpq : p < q) (h : 0 < j) : cf_u p q j < j := by
  unfold cf_u
  split <;> omega
theorem cf_otz {post : Int32 → Prop} {f0 : Int32} {a1 a2 a3 a4 a5 a6 a7 a8 : Nat → Int32} {p q c : Nat} (hpq : p < q) (hc : c ≤ 30) (h7 : ∀ j, j < 6 → a7 j = nI (cf_u p q j)) (h8 : ∀ j, 0 < j → j < 6 → a8 j = nI (cf_s q c j)) (H : post (nI 0)) :
    ∀ n x y k, x < 6 → y < 6 → x + y < n → k + x + y ≤ 11 → wX_onTree_12 post f0 a1 a2 a3 a4 a5 a6 a7 a8 n (nI x) (nI y) (nI 0) (nI k) := by
  intro n
  induction n with
  | zero => intro x y k _ _ h; exact absurd h (by omega)
  | succ n ih =>
    intro x y k hx hy hn hk
    by_cases e : x = y
    · exact pk_le 12 k (fun z => absurd z (by omega)) (fun _ => pk_eq x y (fun _ => H) (fun z => absurd e z))
    · refine cf_ots hc h7 h8 hx hy e (by omega) (by omega) (fun z => ?_) (fun z => ?_)
      · have := cf_ult (j := y) hpq (by omega)
        rw [Nat.zero_min]
        exact ih _ _ _ hx (by omega) (by omega) (by omega)
      · have := cf_ult (j := x) hpq (by omega)
        rw [Nat.zero_min]
        exact ih _ _ _ (by omega) hy (by omega) (by omega)
theorem cf_ot1 {post : Int32 → Prop} {f0 : Int32} {a1 a2 a3 a4 a5 a6 a7 a8 : Nat → Int32} {p q c x y l k : Nat} (hpq : p < q) (hc : c ≤ 30) (h7 : ∀ j, j < 6 → a7 j = nI (cf_u p q j)) (h8 : ∀ j, 0 < j → j < 6 → a8 j = nI (cf_s q c j)) (hx : x < 6) (hy : y < 6) (hxy : x ≠ y) (hk : k ≤ 1) (hl : l ≤ 1048576) (h1 : x < y → y ≠ q) (h2 : y < x → x ≠ q) (H : post (nI 0)) :
    wX_onTree_12 post f0 a1 a2 a3 a4 a5 a6 a7 a8 (13 + 1) (nI x) (nI y) (nI l) (nI k) := by
  refine cf_ots hc h7 h8 hx hy hxy (by omega) hl (fun z => ?_) (fun z => ?_)
  · have := cf_ult (j := y) hpq (by omega)
    rw [show cf_s q c y = 0 from if_neg (h1 z), Nat.min_zero]
    exact cf_otz hpq hc h7 h8 H _ _ _ _ hx (by omega) (by omega) (by omega)
  · have := cf_ult (j := x) hpq (by omega)
    rw [show cf_s q c x = 0 from if_neg (h2 z), Nat.min_zero]
    exact cf_otz hpq hc h7 h8 H _ _ _ _ (by omega) hy (by omega) (by omega)
theorem cf_onTree {post : Int32 → Prop} {f0 : Int32} {a1 a2 a3 a4 a5 a6 a7 a8 : Nat → Int32} {p q c a b : Nat} (hpq : p < q) (hq : q < 6) (hc : c ≤ 30) (h7 : ∀ j, j < 6 → a7 j = nI (cf_u p q j)) (h8 : ∀ j, 0 < j → j < 6 → a8 j = nI (cf_s q c j)) (ha : a < 6) (hb : b < 6)
    (h0 : a = b → post 1048576) (h1 : a ≠ b → post (nI (cf_e p q c a b))) : wpX_onTree post (f0, a1, a2, a3, a4, a5, a6, a7, a8) (nI a) (nI b) := by
  by_cases hab : a = b
  · exact ⟨1, pk_le 12 0 (fun z => absurd z (by omega)) (fun _ => pk_eq a b (fun _ => h0 hab) (fun z => absurd hab z))⟩
  · have h := h1 hab
    by_cases hm : (a < b ∧ b = q) ∨ (b < a ∧ a = q)
    · refine ⟨13 + 1 + 1, cf_ots (l := 1048576) (k := 0) hc h7 h8 ha hb hab (by omega) (by omega) (fun z => ?_) (fun z => ?_)⟩
      · have e : b = q := by omega
        subst e
        rw [show cf_u p b b = p from if_pos rfl, show cf_s b c b = c from if_pos rfl, Nat.min_eq_right (by omega)]
        by_cases e : a = p
        · subst e
          rw [cf_e_pq] at h
          exact pk_le 12 1 (fun z => absurd z (by omega)) (fun _ => pk_eq a a (fun _ => h) (fun z => absurd rfl z))
        · rw [show cf_e p b c a b = 0 from if_neg (by omega)] at h
          exact cf_ot1 hpq hc h7 h8 ha (by omega) e (by omega) (by omega) (by omega) (by omega) h
      · have e : a = q := by omega
        subst e
        rw [show cf_u p a a = p from if_pos rfl, show cf_s a c a = c from if_pos rfl, Nat.min_eq_right (by omega)]
        by_cases e : b = p
        · subst e
          rw [cf_e_qp] at h
          exact pk_le 12 1 (fun z => absurd z (by omega)) (fun _ => pk_eq b b (fun _ => h) (fun z => absurd rfl z))
        · rw [show cf_e p a c a b = 0 from if_neg (by omega)] at h
          exact cf_ot1 hpq hc h7 h8 (by omega) hb (by omega) (by omega) (by omega) (by omega) (by omega) h
    · rw [show cf_e p q c a b = 0 from if_neg (by omega)] at h
      exact ⟨13 + 1, cf_ot1 (l := 1048576) (k := 0) hpq hc h7 h8 ha hb hab (by omega) (by omega) (by omega) (by omega) h⟩
theorem cf_g20 {post : Int32 → St2 → Prop} {f0 : Int32} {a1 a2 a3 a4 a5 a6 a7 a8 : Nat → Int32} {p q c a o : Nat} (hpq : p < q) (hq : q < 6) (hc : c ≤ 30) (h7 : ∀ j, j < 6 → a7 j = nI (cf_u p q j)) (h8 : ∀ j, 0 < j → j < 6 → a8 j = nI (cf_s q c j)) (ha : a < 6) (hoa : o ≠ a)
    (hv : ∀ b, b < 6 → b ≠ a → (b = o → 1 ≤ cf_e p q c a b) ∧ (b ≠ o → cf_e p q c a b = 0)) (H : post (nI (2 ^ a ||| (if o < 6 then 2 ^ o else 0))) (f0, a1, a2, a3, a4, a5, a6, a7, a8)) :
    ∃ n, wX_group_20 post (nI a) 1 f0 a1 a2 a3 a4 a5 a6 a7 a8 n (nI (2 ^ a)) 0 := by
  have small : ∀ b, b ≤ 6 → 2 ^ a ||| (if o < b then 2 ^ o else 0) < 64 := by
    intro b hb
    by_cases e : o < b
    · rw [if_pos e]
      exact cf_ol _ (cf_pl a ha) o (by omega)
    · rw [if_neg e, Nat.or_zero]
      exact cf_pl a ha
  refine pk_loop (fun n b s => wX_group_20 post (nI a) 1 f0 a1 a2 a3 a4 a5 a6 a7 a8 n s (nI b)) (fun b s => s = nI (2 ^ a ||| (if o < b then 2 ^ o else 0))) 6 0 (nI (2 ^ a)) (by omega) (by rw [if_neg (by omega), Nat.or_zero]) ?_ ?_
  · intro n s h
    subst h
    exact pk_le 6 6 (fun _ => H) (fun z => absurd z (by omega))
  · intro n b s hb h hw
    subst h
    have same : b ≠ o → nI (2 ^ a ||| (if o < b then 2 ^ o else 0)) ||| 0 = nI (2 ^ a ||| (if o < b + 1 then 2 ^ o else 0)) := by
      intro hbo
      rw [cf_or0 _ (small b (by omega))]
      by_cases e : o < b
      · rw [if_pos e, if_pos (by omega)]
      · rw [if_neg e, if_neg (by omega)]
    refine pk_le 6 b (fun z => absurd z (by omega)) (fun _ => cf_onTree hpq hq hc h7 h8 ha hb (fun e => ?_) (fun e => ?_))
    · subst e
      exact br_t rfl (nm_r (same (Ne.symm hoa)) (nm_r (nI_1 a) (hw _ rfl)))
    · have hv' := hv b hb (Ne.symm e)
      have hle : cf_e p q c a b ≤ 30 := by
        unfold cf_e
        split <;> omega
      refine pk_eq b a (fun z => absurd z.symm e) (fun _ => pk_lt (cf_e p q c a b) 1 (fun z => nm_r (same ?_) (nm_r (nI_1 b) (hw _ rfl))) (fun z => nm_r (e' := nI (2 ^ a ||| (if o < b + 1 then 2 ^ o else 0))) ?_ (nm_r (nI_1 b) (hw _ rfl))))
      · intro w
        have := hv'.1 w
        omega
      · have w : b = o := by
          by_cases w : b = o
          · exact w
          · have := hv'.2 w
            omega
        rw [cf_or _ (small b (by omega)) b hb, w, if_neg (Nat.lt_irrefl o), if_pos (Nat.lt_succ_self o), Nat.or_zero]
/-- the group of a -/
def cf_gr (p q c a : Nat) : Nat := if 0 < c ∧ a = p then 2 ^ a ||| 2 ^ q else if 0 < c ∧ a = q then 2 ^ a ||| 2 ^ p else 2 ^ a
theorem cf_group0 {post : Int32 → St2 → Prop} {f0 : Int32} {a1 a2 a3 a4 a5 a6 a7 a8 : Nat → Int32} {p q c : Nat} {x : Int32} (hpq : p < q) (hq : q < 6) (hc : c ≤ 30) (hcp : c = 0 → p = 0) (hE : cf_E p q c a1)
    (h1 : ∀ a f b2 b3 b4 b7 b8, a < 6 → x = nI a → post (nI (cf_gr p q c a)) (f, a1, b2, b3, b4, a5, a6, b7, b8)) (h0 : ¬ cf_P x → post 0 (f0, a1, a2, a3, a4, a5, a6, a7, a8)) : wpX_group post (f0, a1, a2, a3, a4, a5, a6, a7, a8) x 1 := by
  unfold wpX_group
  refine cf_place (fun a ha ex => br_f (by decide) ?_) (fun h => br_t rfl (h0 h))
  refine cf_grow hpq hq hc hcp hE (fun f b2 b3 b4 b7 b8 g7 g8 => ?_)
  have h := h1 a f b2 b3 b4 b7 b8 ha ex
  subst ex
  refine nm_r (cf_sh a ha) ?_
  unfold cf_gr at h
  by_cases e1 : 0 < c ∧ a = p
  · rw [if_pos e1] at h
    have e2 := e1.2
    subst e2
    refine cf_g20 (o := q) hpq hq hc g7 g8 ha (by omega) (fun b hb hba => ⟨fun z => ?_, fun z => cf_e_o z (by omega)⟩) ?_
    · subst z
      rw [cf_e_pq]
      exact e1.1
    · rw [if_pos hq]
      exact h
  · rw [if_neg e1] at h
    by_cases e2 : 0 < c ∧ a = q
    · rw [if_pos e2] at h
      have e3 := e2.2
      subst e3
      refine cf_g20 (o := p) hpq hq hc g7 g8 ha (by omega) (fun b hb hba => ⟨fun z => ?_, fun z => ?_⟩) ?_
      · subst z
        rw [cf_e_qp]
        exact e2.1
      · exact if_neg (by omega)
      · rw [if_pos (by omega)]
        exact h
    · rw [if_neg e2] at h
      refine cf_g20 (o := 6) hpq hq hc g7 g8 ha (by omega) (fun b hb hba => ⟨fun z => absurd z (by omega), fun z => ?_⟩) ?_
      · unfold cf_e
        split <;> omega
      · rw [if_neg (by omega), Nat.or_zero]
        exact h
theorem cf_group {post : Int32 → St2 → Prop} {f0 : Int32} {a1 a2 a3 a4 a5 a6 a7 a8 : Nat → Int32} {p q c : Nat} {x : Int32} (hpq : p ≠ q) (hp : p < 6) (hq : q < 6) (hc : c ≤ 30) (hE : cf_E p q c a1)
    (h1 : ∀ a f b2 b3 b4 b7 b8, a < 6 → x = nI a → post (nI (cf_gr p q c a)) (f, a1, b2, b3, b4, a5, a6, b7, b8)) (h0 : ¬ cf_P x → post 0 (f0, a1, a2, a3, a4, a5, a6, a7, a8)) : wpX_group post (f0, a1, a2, a3, a4, a5, a6, a7, a8) x 1 := by
  rcases Nat.eq_zero_or_pos c with hz | hz
  · subst hz
    refine cf_group0 (p := 0) (q := 1) (c := 0) (by omega) (by omega) (by omega) (fun _ => rfl) (cf_E_0 hE) (fun a f b2 b3 b4 b7 b8 ha ex => ?_) h0
    have h := h1 a f b2 b3 b4 b7 b8 ha ex
    unfold cf_gr at h ⊢
    rw [if_neg (by omega), if_neg (by omega)] at h ⊢
    exact h
  · rcases Nat.lt_or_gt_of_ne hpq with hlt | hlt
    · exact cf_group0 hlt hq hc (fun z => absurd z (by omega)) hE h1 h0
    · refine cf_group0 hlt hp hc (fun z => absurd z (by omega)) (cf_E_sw hE) (fun a f b2 b3 b4 b7 b8 ha ex => ?_) h0
      have h := h1 a f b2 b3 b4 b7 b8 ha ex
      have e : cf_gr p q c a = cf_gr q p c a := by
        unfold cf_gr
        by_cases z1 : 0 < c ∧ a = p
        · rw [if_pos z1, if_neg (by omega), if_pos z1]
        · rw [if_neg z1]
          by_cases z2 : 0 < c ∧ a = q
          · rw [if_pos z2, if_pos z2]
          · rw [if_neg z2, if_neg z2, if_neg z1]
      rw [e] at h
      exact h
end
section
/-! adding the most tightly joined: tightest, merge, least -/
theorem cf_clr : ∀ m, m < 64 → ∀ v, v < 6 → nI m &&& (((1 : Int32) <<< (nI v &&& 31)) ^^^ (-1)) = nI (m &&& (63 - 2 ^ v)) := by decide +kernel
theorem cf_clrB : ∀ m, m < 64 → ∀ v, v < 6 → m &&& (63 - 2 ^ v) < 64 ∧ ∀ i, i < 6 → (m &&& (63 - 2 ^ v)).testBit i = (m.testBit i && !decide (i = v)) := by decide +kernel
/-- how many places a mask has -/
def cf_pc (m : Nat) : Nat := (m.testBit 0).toNat + (m.testBit 1).toNat + (m.testBit 2).toNat + (m.testBit 3).toNat + (m.testBit 4).toNat + (m.testBit 5).toNat
theorem cf_pc_or : ∀ m, m < 64 → ∀ v, v < 6 → m.testBit v = false → cf_pc (m ||| 2 ^ v) = cf_pc m + 1 := by decide +kernel
theorem cf_pc_clr : ∀ m, m < 64 → ∀ v, v < 6 → m.testBit v = true → cf_pc (m &&& (63 - 2 ^ v)) + 1 = cf_pc m := by decide +kernel
theorem cf_pc_ex : ∀ t, t < 64 → ∀ a, a < 64 → cf_pc a < cf_pc t → ∃ v, v < 6 ∧ t.testBit v = true ∧ a.testBit v = false := by decide +kernel
theorem cf_pc_all : ∀ t, t < 64 → ∀ a, a < 64 → (∀ i, i < 6 → a.testBit i = true → t.testBit i = true) → cf_pc a = cf_pc t → a = t := by decide +kernel
/-- a whole number from 0 to B -/
def cf_V (B : Nat) (x : Int32) : Prop := x = nI x.toNatClampNeg ∧ x.toNatClampNeg ≤ B
theorem cf_V_of {B n : Nat} (h : n ≤ B) (hB : B < 2 ^ 31) : cf_V B (nI n) := by
  unfold cf_V
  rw [nI_clamp (by omega)]
  exact ⟨rfl, h⟩
theorem cf_V_add {B C : Nat} {x y : Int32} (hx : cf_V B x) (hy : cf_V C y) (h : B + C < 2 ^ 31) : cf_V (B + C) (x + y) := by
  have h1 := hx.2
  have h2 := hy.2
  rw [hx.1, hy.1, nI_add]
  exact cf_V_of (by omega) h
theorem cf_V_le {B C : Nat} {x : Int32} (hx : cf_V B x) (h : B ≤ C) : cf_V C x := ⟨hx.1, Nat.le_trans hx.2 h⟩
theorem cf_V_0 {B : Nat} : cf_V B 0 := ⟨rfl, Nat.zero_le _⟩
/-- the tightness of v to the places of A -/
def cf_t (a5 : Nat → Int32) (A v k : Nat) : Nat := if A.testBit k = true then (a5 (v * 6 + k)).toNatClampNeg else 0
def cf_T (a5 : Nat → Int32) (A v : Nat) : Nat := cf_sum (cf_t a5 A v) 6
theorem cf_T_B {a5 : Nat → Int32} {A v B : Nat} (hv : v < 6) (h : ∀ i, i < 36 → cf_V B (a5 i)) : cf_T a5 A v ≤ 6 * B := by
  refine cf_sumB 6 (fun j hj => ?_)
  unfold cf_t
  have := (h (v * 6 + j) (by omega)).2
  split <;> omega
theorem cf_t36 {post : Int32 → St2 → Prop} {J : Int32 → Int32 → (Nat → Int32) → (Nat → Int32) → (Nat → Int32) → (Nat → Int32) → (Nat → Int32) → (Nat → Int32) → (Nat → Int32) → (Nat → Int32) → Prop} {x1 x3 f0 : Int32} {a1 a2 a3 a4 a5 a6 a7 a8 : Nat → Int32} {A v B : Nat} (hA : A < 64) (hv : v < 6) (h : ∀ i, i < 36 → cf_V B (a5 i))
    (H : (x3 < 0 → J (nI v) (nI (v + 1)) a1 a2 a3 a4 a5 (upd a6 v (nI (cf_T a5 A v))) a7 a8) ∧ (¬ x3 < 0 → (vp_in x3 6 ∧ ((nI (cf_T a5 A v) ≤ upd a6 v (nI (cf_T a5 A v)) x3.toNatClampNeg → J x3 (nI (v + 1)) a1 a2 a3 a4 a5 (upd a6 v (nI (cf_T a5 A v))) a7 a8) ∧ (¬ nI (cf_T a5 A v) ≤ upd a6 v (nI (cf_T a5 A v)) x3.toNatClampNeg → J (nI v) (nI (v + 1)) a1 a2 a3 a4 a5 (upd a6 v (nI (cf_T a5 A v))) a7 a8))))) :
    ∃ n, wX_tightest_36 post J x1 (nI A) x3 (nI v) f0 a1 a2 a3 a4 a5 a6 a7 a8 n 0 0 := by
  refine pk_loop (fun n k s => wX_tightest_36 post J x1 (nI A) x3 (nI v) f0 a1 a2 a3 a4 a5 a6 a7 a8 n s (nI k)) (fun k s => s = nI (cf_sum (cf_t a5 A v) k)) 6 0 0 (by omega) rfl ?_ ?_
  · intro n s hs
    subst hs
    refine pk_le 6 6 (fun _ => ⟨pk_in v 6 hv, nm_r (e' := upd a6 v (nI (cf_T a5 A v))) ?_ ?_⟩) (fun z => absurd z (by omega))
    · rw [nI_clamp (by omega)]
      rfl
    · refine br_c (fun z => nm_r (nI_1 v) (H.1 z)) (fun z => ⟨(H.2 z).1, br_c (fun g => nm_r (nI_1 v) ((H.2 z).2.1 g)) (fun g => nm_r (nI_1 v) ((H.2 z).2.2 g))⟩)
  · intro n k s hk hs hw
    subst hs
    have st : ∀ d, cf_t a5 A v k = d → nI (cf_sum (cf_t a5 A v) k) + nI d = nI (cf_sum (cf_t a5 A v) (k + 1)) := by
      intro d e
      rw [nI_add, ← e]
      rfl
    refine pk_le 6 k (fun z => absurd z (by omega)) (fun _ => cf_inb hA hk (fun hb => nm_r (st 0 ?_) (nm_r (nI_1 k) (hw _ rfl))) (fun hb => ⟨cf_in36 hv hk, ?_⟩))
    · unfold cf_t
      rw [hb]
      rfl
    · rw [cf_cl hv hk, (h (v * 6 + k) (by omega)).1]
      refine nm_r (st _ ?_) (nm_r (nI_1 k) (hw _ rfl))
      unfold cf_t
      rw [hb]
      rfl
/-- v is there and not yet added -/
def cf_W (T A v : Nat) : Prop := T.testBit v = true ∧ A.testBit v = false
theorem cf_tightest {post : Int32 → St2 → Prop} {f0 : Int32} {a1 a2 a3 a4 a5 a6 a7 a8 : Nat → Int32} {T A B : Nat} (hT : T < 64) (hA : A < 64) (hB : B ≤ 100000) (h : ∀ i, i < 36 → cf_V B (a5 i)) (hex : ∃ v, v < 6 ∧ cf_W T A v)
    (H : ∀ v b6, v < 6 → cf_W T A v → b6 v = nI (cf_T a5 A v) → (∀ w, w < 6 → cf_W T A w → cf_T a5 A w ≤ cf_T a5 A v) → post (nI v) (f0, a1, a2, a3, a4, a5, b6, a7, a8)) : wpX_tightest post (f0, a1, a2, a3, a4, a5, a6, a7, a8) (nI T) (nI A) := by
  refine pk_loop (fun n i (s : Int32 × (Nat → Int32)) => wX_tightest_5 post (nI T) (nI A) f0 n s.1 (nI i) a1 a2 a3 a4 a5 s.2 a7 a8)
    (fun i s => (s.1 = -1 ∧ ∀ w, w < i → ¬ cf_W T A w) ∨ (∃ v, v < i ∧ s.1 = nI v ∧ cf_W T A v ∧ s.2 v = nI (cf_T a5 A v) ∧ ∀ w, w < i → cf_W T A w → cf_T a5 A w ≤ cf_T a5 A v)) 6 0 (-1, a6) (by omega) (Or.inl ⟨rfl, fun w hw => absurd hw (by omega)⟩) ?_ ?_
  · intro n s hs
    refine pk_le 6 6 (fun _ => ?_) (fun z => absurd z (by omega))
    rcases hs with ⟨_, g⟩ | ⟨v, g1, g2, g3, g4, g5⟩
    · obtain ⟨v, hv, hw⟩ := hex
      exact absurd hw (g v hv)
    · rw [g2]
      exact H v s.2 g1 g3 g4 g5
  · intro n i s hi hs hw
    obtain ⟨x3, b6⟩ := s
    have skip : ¬ cf_W T A i → (x3 = -1 ∧ ∀ w, w < i + 1 → ¬ cf_W T A w) ∨ (∃ v, v < i + 1 ∧ x3 = nI v ∧ cf_W T A v ∧ b6 v = nI (cf_T a5 A v) ∧ ∀ w, w < i + 1 → cf_W T A w → cf_T a5 A w ≤ cf_T a5 A v) := by
      intro hn
      rcases hs with ⟨g1, g2⟩ | ⟨v, g1, g2, g3, g4, g5⟩
      · refine Or.inl ⟨g1, fun w hw => ?_⟩
        by_cases e : w = i
        · subst e
          exact hn
        · exact g2 w (by omega)
      · refine Or.inr ⟨v, by omega, g2, g3, g4, fun w hw hc => ?_⟩
        by_cases e : w = i
        · subst e
          exact absurd hc hn
        · exact g5 w (by omega) hc
    refine pk_le 6 i (fun z => absurd z (by omega)) (fun _ => cf_inb hT hi (fun hb => nm_r (nI_1 i) (hw (x3, b6) (skip (fun z => ?_)))) (fun hb => cf_inb hA hi (fun hc => cf_t36 hA hi h ?_) (fun hc => nm_r (nI_1 i) (hw (x3, b6) (skip (fun z => ?_))))))
    · have := z.1
      rw [hb] at this
      exact absurd this (by decide)
    · have hWi : cf_W T A i := ⟨hb, hc⟩
      have hbd : ∀ w, w < 6 → cf_T a5 A w ≤ 600000 := fun w hw => Nat.le_trans (cf_T_B hw h) (by omega)
      rcases hs with ⟨g1, g2⟩ | ⟨v, g1, g2, g3, g4, g5⟩
      · have g1' : x3 = -1 := g1
        subst g1'
        refine br_t (show (-1 : Int32) < 0 by decide) (hw (nI i, _) (Or.inr ⟨i, by omega, rfl, hWi, pk_us, fun w hw' hc' => ?_⟩))
        by_cases e : w = i
        · subst e
          exact Nat.le_refl _
        · exact absurd hc' (g2 w (by omega))
      · have g2' : x3 = nI v := g2
        subst g2'
        have hvi : v ≠ i := by omega
        have b1 := hbd i hi
        have b2 := hbd v (by omega)
        refine br_f (nI_pos (by omega)) ⟨pk_in v 6 (by omega), ?_⟩
        dsimp only
        rw [nI_clamp (by omega), pk_un hvi, show b6 v = nI (cf_T a5 A v) from g4]
        refine pk_le (cf_T a5 A i) (cf_T a5 A v) (fun z => hw (nI v, _) (Or.inr ⟨v, by omega, rfl, g3, ?_, fun w hw' hc' => ?_⟩)) (fun z => hw (nI i, _) (Or.inr ⟨i, by omega, rfl, hWi, pk_us, fun w hw' hc' => ?_⟩))
        · show upd b6 i _ v = _
          rw [pk_un hvi]
          exact g4
        · by_cases e : w = i
          · subst e
            exact z
          · exact g5 w (by omega) hc'
        · by_cases e : w = i
          · subst e
            exact Nat.le_refl _
          · have := g5 w (by omega) hc'
            omega
    · have := z.2
      rw [hc] at this
      exact absurd this (by decide)
/-- merge: bounds, and which cells stay 0 -/
theorem cf_merge {post : St2 → Prop} {f0 : Int32} {a1 a2 a3 a4 a5 a6 a7 a8 : Nat → Int32} {p q B : Nat} {S : Nat → Prop} (hp : p < 6) (hq : q < 6) (hpq : p ≠ q) (hB : B ≤ 100000) (h : ∀ i, i < 36 → cf_V B (a5 i))
    (hz : ∀ i j, i < 6 → j < 6 → S i → S j → ¬ ((i = p ∧ j = q) ∨ (i = q ∧ j = p)) → a5 (i * 6 + j) = nI 0)
    (H : ∀ b5, (∀ i, i < 36 → cf_V (3 * B) (b5 i)) → (S p → S q → ∀ i j, i < 6 → j < 6 → S i → S j → i ≠ q → j ≠ q → b5 (i * 6 + j) = nI 0) → post (f0, a1, a2, a3, a4, b5, a6, a7, a8)) : wpX_merge post (f0, a1, a2, a3, a4, a5, a6, a7, a8) (nI p) (nI q) := by
  refine pk_loop (fun n k s => wX_merge_2 post (nI p) (nI q) f0 n (nI k) a1 a2 a3 a4 s a6 a7 a8)
    (fun k s => (∀ i, i < 36 → cf_V (3 * B) (s i)) ∧ (∀ j, k ≤ j → j < 6 → cf_V B (s (p * 6 + j))) ∧ ((∀ j, j < 6 → cf_V (2 * B) (s (q * 6 + j))) ∧ (∀ j, j < 6 → j ≠ p → cf_V B (s (q * 6 + j)))) ∧ (S p → S q → (∀ i j, i < 6 → j < 6 → S i → S j → i ≠ q → j ≠ q → ¬ (i = p ∧ j = p) → s (i * 6 + j) = nI 0) ∧ (∀ j, j < 6 → S j → j ≠ p → j ≠ q → s (q * 6 + j) = nI 0)))
    6 0 a5 (by omega) ⟨fun i hi => cf_V_le (h i hi) (by omega), fun j _ hj => h _ (by omega), ⟨fun j hj => cf_V_le (h _ (by omega)) (by omega), fun j hj _ => h _ (by omega)⟩, fun s1 s2 => ⟨fun i j hi hj h1 h2 h3 h4 h5 => hz i j hi hj h1 h2 (by omega), fun j hj h1 h2 h3 => hz q j hq hj s2 h1 (by omega)⟩⟩ ?_ ?_
  · intro n s ⟨g1, _, _, g4⟩
    refine pk_le 6 6 (fun _ => ⟨cf_in36 hp hp, nm_r (e' := upd s (p * 6 + p) (nI 0)) (by rw [cf_cl hp hp]; rfl) (H _ (fun i hi => ?_) (fun s1 s2 i j hi hj h1 h2 h3 h4 => ?_))⟩) (fun z => absurd z (by omega))
    · by_cases e : i = p * 6 + p
      · subst e
        rw [pk_us]
        exact cf_V_0
      · rw [pk_un e]
        exact g1 i hi
    · by_cases e : i * 6 + j = p * 6 + p
      · rw [e, pk_us]
      · rw [pk_un e]
        exact (g4 s1 s2).1 i j hi hj h1 h2 h3 h4 (by omega)
  · intro n k s hk ⟨g1, g2, ⟨g3, g5⟩, g4⟩ hw
    have v0 : cf_V (B + 2 * B) (s (p * 6 + k) + s (q * 6 + k)) := cf_V_add (g2 k (Nat.le_refl k) hk) (g3 k hk) (by omega)
    refine pk_le 6 k (fun z => absurd z (by omega)) (fun _ => ⟨cf_in36 hp hk, cf_in36 hq hk, cf_in36 hp hk, nm_r (e' := upd s (p * 6 + k) (s (p * 6 + k) + s (q * 6 + k))) (by rw [cf_cl hp hk, cf_cl hq hk]) ⟨cf_in36 hp hk, cf_in36 hk hp, nm_r (e' := upd (upd s (p * 6 + k) (s (p * 6 + k) + s (q * 6 + k))) (k * 6 + p) (s (p * 6 + k) + s (q * 6 + k))) (by rw [cf_cl hp hk, cf_cl hk hp, pk_us]) (nm_r (nI_1 k) (hw _ ?_))⟩⟩)
    have gen : ∀ i, (i = p * 6 + k ∨ i = k * 6 + p → upd (upd s (p * 6 + k) (s (p * 6 + k) + s (q * 6 + k))) (k * 6 + p) (s (p * 6 + k) + s (q * 6 + k)) i = s (p * 6 + k) + s (q * 6 + k)) ∧ (i ≠ p * 6 + k → i ≠ k * 6 + p → upd (upd s (p * 6 + k) (s (p * 6 + k) + s (q * 6 + k))) (k * 6 + p) (s (p * 6 + k) + s (q * 6 + k)) i = s i) := by
      intro i
      refine ⟨fun hi => ?_, fun h1 h2 => by rw [pk_un h2, pk_un h1]⟩
      by_cases e : i = k * 6 + p
      · rw [e, pk_us]
      · rw [pk_un e]
        rcases hi with e2 | e2
        · rw [e2, pk_us]
        · exact absurd e2 e
    refine ⟨fun i hi => ?_, fun j h1 h2 => ?_, ⟨fun j hj => ?_, fun j hj hjp => ?_⟩, fun s1 s2 => ?_⟩
    · by_cases e : i = p * 6 + k ∨ i = k * 6 + p
      · rw [(gen i).1 e]
        exact cf_V_le v0 (by omega)
      · rw [(gen i).2 (by omega) (by omega)]
        exact g1 i hi
    · by_cases e : p * 6 + j = k * 6 + p
      · exact absurd e (by omega)
      · rw [(gen _).2 (by omega) e]
        exact g2 j (by omega) h2
    · by_cases e : q * 6 + j = k * 6 + p
      · rw [(gen _).1 (Or.inr e)]
        have v1 : cf_V (B + B) (s (p * 6 + k) + s (q * 6 + k)) := cf_V_add (g2 k (Nat.le_refl k) hk) (g5 k hk (by omega)) (by omega)
        exact cf_V_le v1 (by omega)
      · rw [(gen _).2 (by omega) e]
        exact g3 j hj
    · rw [(gen _).2 (by omega) (by omega)]
      exact g5 j hj hjp
    · have gz := g4 s1 s2
      have zk : S k → k ≠ p → k ≠ q → s (p * 6 + k) + s (q * 6 + k) = nI 0 := by
        intro h1 h2 h3
        rw [gz.1 p k hp hk s1 h1 hpq h3 (by omega), gz.2 k hk h1 h2 h3]
        rfl
      refine ⟨fun i j hi hj h1 h2 h3 h4 h5 => ?_, fun j hj h1 h2 h3 => ?_⟩
      · by_cases e : i * 6 + j = p * 6 + k ∨ i * 6 + j = k * 6 + p
        · rw [(gen _).1 e]
          rcases e with e | e
          · have e1 : j = k := by omega
            subst e1
            exact zk h2 (by omega) h4
          · have e1 : i = k := by omega
            subst e1
            exact zk h1 (by omega) h3
        · rw [(gen _).2 (by omega) (by omega)]
          exact gz.1 i j hi hj h1 h2 h3 h4 h5
      · rw [(gen _).2 (by omega) (by omega)]
        exact gz.2 j hj h1 h2 h3
end
section
/-! the phases of least, and loss -/
theorem cf_l51 {post : Int32 → St2 → Prop} {J : Int32 → Int32 → Int32 → Int32 → (Nat → Int32) → (Nat → Int32) → (Nat → Int32) → (Nat → Int32) → (Nat → Int32) → (Nat → Int32) → (Nat → Int32) → (Nat → Int32) → Prop} {f0 : Int32} {a1 a2 a3 a4 a5 a6 a7 a8 : Nat → Int32} {T B f β : Nat} (K : Nat → Int32 → Int32 → Nat → Prop)
    (hT : T < 64) (hB : B ≤ 100000) (h : ∀ i, i < 36 → cf_V B (a5 i)) (hf : f ≤ 4) (hpc : cf_pc T = 6 - f) (hβ : β ≤ 1048576) (K0 : K 0 (-1) (-1) 0)
    (Ks : ∀ A l b t v, A < 64 → (∀ i, i < 6 → A.testBit i = true → T.testBit i = true) → K A l b t → v < 6 → cf_W T A v → (∀ w, w < 6 → cf_W T A w → cf_T a5 A w ≤ cf_T a5 A v) → K (A ||| 2 ^ v) (nI v) l (cf_T a5 A v))
    (H : ∀ l b t b6, l < 6 → b < 6 → b ≠ l → T.testBit l = true → T.testBit b = true → K T (nI l) (nI b) t → wX_least_108 post J (nI T) (nI f) (nI l) (nI b) (nI (min β t)) f0 a1 a2 a3 a4 a5 b6 a7 a8) :
    ∃ n, wX_least_51 post J (nI β) (nI T) (nI f) n (-1) (-1) 0 (nI f) f0 a1 a2 a3 a4 a5 a6 a7 a8 := by
  refine pk_loop (fun n k (s : Int32 × Int32 × Int32 × (Nat → Int32)) => wX_least_51 post J (nI β) (nI T) (nI f) n s.1 s.2.1 s.2.2.1 (nI k) f0 a1 a2 a3 a4 a5 s.2.2.2 a7 a8)
    (fun k s => f ≤ k ∧ ∃ A t, A < 64 ∧ s.2.2.1 = nI A ∧ (∀ i, i < 6 → A.testBit i = true → T.testBit i = true) ∧ cf_pc A = k - f ∧ K A s.1 s.2.1 t ∧ (f < k → ∃ l, l < 6 ∧ s.1 = nI l ∧ A.testBit l = true ∧ s.2.2.2 l = nI t ∧ t ≤ 600000 ∧ (f + 1 < k → ∃ b, b < 6 ∧ s.2.1 = nI b ∧ b ≠ l ∧ A.testBit b = true)))
    6 f (-1, -1, nI 0, a6) (by omega) ⟨Nat.le_refl f, 0, 0, by omega, rfl, fun i _ z => absurd z (by rw [Nat.zero_testBit]; decide), by rw [Nat.sub_self]; rfl, K0, fun z => absurd z (by omega)⟩ ?_ ?_
  · intro n s ⟨_, A, t, hA, e6, hsub, hp, hK, hl⟩
    obtain ⟨x4, x5, x6, b6⟩ := s
    obtain ⟨l, hl6, e4, hAl, ht, ht6, hb⟩ := hl (by omega)
    obtain ⟨b, hb6, e5, hbl, hAb⟩ := hb (by omega)
    have eAT : A = T := cf_pc_all T hT A hA hsub (by omega)
    subst eAT
    have e4' : x4 = nI l := e4
    have e5' : x5 = nI b := e5
    have ht' : b6 l = nI t := ht
    subst e4'
    subst e5'
    have G := H l b t b6 hl6 hb6 hbl hAl hAb hK
    have ec : b6 (nI l).toNatClampNeg = nI t := by rw [nI_clamp (by omega), ht']
    refine pk_le 6 6 (fun _ => ⟨pk_in l 6 hl6, pk_le β t (fun z => ?_) (fun z => ⟨pk_in l 6 hl6, ?_⟩) rfl ec (by omega) (by omega)⟩) (fun z => absurd z (by omega))
    · rw [Nat.min_eq_left z] at G
      exact G
    · rw [Nat.min_eq_right (by omega)] at G
      dsimp only
      rw [ec]
      exact G
  · intro n k s hk ⟨hfk, A, t, hA, e6, hsub, hp, hK, hl⟩ hw
    obtain ⟨x4, x5, x6, b6⟩ := s
    have e6' : x6 = nI A := e6
    subst e6'
    refine pk_le 6 k (fun z => absurd z (by omega)) (fun _ => cf_tightest hT hA hB h (cf_pc_ex T hT A hA (by omega)) (fun v c6 hv hW ev hmax => nm_r (cf_or A hA v hv) (nm_r (nI_1 k) (hw (nI v, x4, nI (A ||| 2 ^ v), c6) ⟨by omega, A ||| 2 ^ v, cf_T a5 A v, cf_ol A hA v hv, rfl, fun i hi z => ?_, ?_, Ks A x4 x5 t v hA hsub hK hv hW hmax, fun _ => ⟨v, hv, rfl, ?_, ev, ?_, fun hfk' => ?_⟩⟩))))
    · rw [Nat.testBit_or, Nat.testBit_two_pow] at z
      by_cases e : v = i
      · subst e
        exact hW.1
      · rw [decide_eq_false e, Bool.or_false] at z
        exact hsub i hi z
    · rw [cf_pc_or A hA v hv hW.2, hp]
      exact (Nat.succ_sub hfk).symm
    · rw [Nat.testBit_or, Nat.testBit_two_pow_self, Bool.or_true]
    · exact Nat.le_trans (cf_T_B hv h) (by omega)
    · obtain ⟨l, hl6, e4, hAl, _⟩ := hl (by omega)
      refine ⟨l, hl6, e4, ?_, ?_⟩
      · intro e
        subst e
        have := hW.2
        rw [hAl] at this
        exact absurd this (by decide)
      · rw [Nat.testBit_or, hAl, Bool.true_or]
theorem cf_l108 {post : Int32 → St2 → Prop} {J : Int32 → Int32 → Int32 → Int32 → (Nat → Int32) → (Nat → Int32) → (Nat → Int32) → (Nat → Int32) → (Nat → Int32) → (Nat → Int32) → (Nat → Int32) → (Nat → Int32) → Prop} {f0 z0 : Int32} {a1 a2 a3 a4 a5 a6 a7 a8 : Nat → Int32} {T B f l b : Nat} (S : Nat → Prop) (hT : T < 64) (hb : b < 6) (hl : l < 6) (hbl : b ≠ l) (hB : B ≤ 100000) (h : ∀ i, i < 36 → cf_V B (a5 i))
    (hz : ∀ i j, i < 6 → j < 6 → S i → S j → ¬ ((i = b ∧ j = l) ∨ (i = l ∧ j = b)) → a5 (i * 6 + j) = nI 0)
    (H : ∀ b5, (∀ i, i < 36 → cf_V (3 * B) (b5 i)) → (S b → S l → ∀ i j, i < 6 → j < 6 → S i → S j → i ≠ l → j ≠ l → b5 (i * 6 + j) = nI 0) → J z0 (nI (T &&& (63 - 2 ^ l))) (nI (f + 1)) f0 a1 a2 a3 a4 b5 a6 a7 a8) :
    wX_least_108 post J (nI T) (nI f) (nI l) (nI b) z0 f0 a1 a2 a3 a4 a5 a6 a7 a8 := by
  unfold wX_least_108
  exact cf_merge (S := S) hb hl hbl hB h hz (fun b5 g1 g2 => nm_r (cf_clr T hT l hl) (nm_r (nI_1 f) (H b5 g1 g2)))
/-- with one link of capacity c: at most one of its ends was added, and then last; or both, one right behind the other, or the last one is not joined -/
def cf_K (p q A : Nat) (l b : Int32) (t : Nat) : Prop := (A.testBit p = false ∧ A.testBit q = false) ∨ (A.testBit p = true ∧ A.testBit q = false ∧ l = nI p) ∨ (A.testBit q = true ∧ A.testBit p = false ∧ l = nI q) ∨ (A.testBit p = true ∧ A.testBit q = true ∧ (t = 0 ∨ (l = nI p ∧ b = nI q) ∨ (l = nI q ∧ b = nI p)))
theorem cf_sum_ge {g : Nat → Nat} {j : Nat} : ∀ k, j < k → g j ≤ cf_sum g k := by
  intro k
  induction k with
  | zero => intro h; exact absurd h (by omega)
  | succ k ih =>
    intro h
    show g j ≤ cf_sum g k + g k
    by_cases e : j = k
    · subst e
      omega
    · have := ih (by omega)
      omega
theorem cf_T_n {a5 : Nat → Int32} {p q c A v : Nat} (hE : cf_E p q c a5) (hv : v < 6) (h1 : v ≠ p) (h2 : v ≠ q) : cf_T a5 A v = 0 := by
  refine cf_sum0 6 (fun j hj => ?_)
  unfold cf_t
  rw [hE v j hv hj, cf_e_n h1 h2, nI_clamp (by omega), ite_self]
theorem cf_T_q {a5 : Nat → Int32} {p q c A : Nat} (hE : cf_E p q c a5) (hp : p < 6) (hq : q < 6) (hc : c ≤ 30) (h : A.testBit p = true) : c ≤ cf_T a5 A q := by
  have h1 : cf_t a5 A q p = c := by
    unfold cf_t
    rw [if_pos h, hE q p hq hp, cf_e_qp, nI_clamp (by omega)]
  have h2 : cf_t a5 A q p ≤ cf_T a5 A q := cf_sum_ge 6 hp
  omega
theorem cf_T_z {a5 : Nat → Int32} {T A v : Nat} (hz : ∀ i j, i < 6 → j < 6 → T.testBit i = true → T.testBit j = true → a5 (i * 6 + j) = nI 0) (hv : v < 6) (hTv : T.testBit v = true) (hsub : ∀ i, i < 6 → A.testBit i = true → T.testBit i = true) : cf_T a5 A v = 0 := by
  refine cf_sum0 6 (fun j hj => ?_)
  unfold cf_t
  by_cases e : A.testBit j = true
  · rw [if_pos e, hz v j hv hj hTv (hsub j hj e), nI_clamp (by omega)]
  · rw [if_neg e]
theorem cf_Kstep {a5 : Nat → Int32} {p q c T A v t : Nat} {l b : Int32} (hE : cf_E p q c a5) (hp : p < 6) (hq : q < 6) (hpq : p ≠ q) (hc0 : 0 < c) (hc : c ≤ 30) (hT : ∀ i, i < 6 → T.testBit i = true) (hK : cf_K p q A l b t) (hv : v < 6) (hW : cf_W T A v) (hmax : ∀ w, w < 6 → cf_W T A w → cf_T a5 A w ≤ cf_T a5 A v) : cf_K p q (A ||| 2 ^ v) (nI v) l (cf_T a5 A v) := by
  have hs : (A ||| 2 ^ v).testBit v = true := by rw [Nat.testBit_or, Nat.testBit_two_pow_self, Bool.or_true]
  have ho : ∀ i, v ≠ i → (A ||| 2 ^ v).testBit i = A.testBit i := by
    intro i e
    rw [Nat.testBit_or, Nat.testBit_two_pow_of_ne e, Bool.or_false]
  unfold cf_K
  rcases hK with ⟨k1, k2⟩ | ⟨k1, k2, k3⟩ | ⟨k1, k2, k3⟩ | ⟨k1, k2, k3⟩
  · by_cases e1 : v = p
    · subst e1
      exact Or.inr (Or.inl ⟨hs, by rw [ho q hpq, k2], rfl⟩)
    · by_cases e2 : v = q
      · subst e2
        exact Or.inr (Or.inr (Or.inl ⟨hs, by rw [ho p e1, k1], rfl⟩))
      · exact Or.inl ⟨by rw [ho p e1, k1], by rw [ho q e2, k2]⟩
  · have e1 : v ≠ p := by
      intro e
      subst e
      have := hW.2
      rw [k1] at this
      exact absurd this (by decide)
    by_cases e2 : v = q
    · subst e2
      exact Or.inr (Or.inr (Or.inr ⟨by rw [ho p e1, k1], hs, Or.inr (Or.inr ⟨rfl, k3⟩)⟩))
    · have g1 := hmax q hq ⟨hT q hq, k2⟩
      have g2 := cf_T_q hE hp hq hc k1
      rw [cf_T_n hE hv e1 e2] at g1
      exact absurd hc0 (by omega)
  · have e2 : v ≠ q := by
      intro e
      subst e
      have := hW.2
      rw [k1] at this
      exact absurd this (by decide)
    by_cases e1 : v = p
    · subst e1
      exact Or.inr (Or.inr (Or.inr ⟨hs, by rw [ho q e2, k1], Or.inr (Or.inl ⟨rfl, k3⟩)⟩))
    · have g1 := hmax p hp ⟨hT p hp, k2⟩
      have g2 := cf_T_q (cf_E_sw hE) hq hp hc k1
      rw [cf_T_n hE hv e1 e2] at g1
      exact absurd hc0 (by omega)
  · have e1 : v ≠ p := by
      intro e
      subst e
      have := hW.2
      rw [k1] at this
      exact absurd this (by decide)
    have e2 : v ≠ q := by
      intro e
      subst e
      have := hW.2
      rw [k2] at this
      exact absurd this (by decide)
    exact Or.inr (Or.inr (Or.inr ⟨by rw [ho p e1, k1], by rw [ho q e2, k2], Or.inl (cf_T_n hE hv e1 e2)⟩))
/-- what is known at a phase -/
def cf_Q (p q c f β T : Nat) (a5 : Nat → Int32) : Prop := β = 0 ∨ (f ≤ 1 ∧ ∀ i j, i < 6 → j < 6 → T.testBit i = true → T.testBit j = true → a5 (i * 6 + j) = nI 0) ∨ (f = 0 ∧ T = 63 ∧ cf_E p q c a5 ∧ 0 < c)
theorem cf_63 : ∀ i, i < 6 → (63 : Nat).testBit i = true := by decide +kernel
theorem cf_least {post : Int32 → St2 → Prop} {f0 : Int32} {a1 a2 a3 a4 a5 a6 a7 a8 : Nat → Int32} {p q c : Nat} (hp : p < 6) (hq : q < 6) (hpq : p ≠ q) (hc : c ≤ 30) (hE : cf_E p q c a1)
    (H : ∀ b5 b6, post 0 (f0, a1, a2, a3, a4, b5, b6, a7, a8)) : wpX_least post (f0, a1, a2, a3, a4, a5, a6, a7, a8) := by
  refine pk_loop (fun n j s => wX_least_2 post f0 n (nI j) a1 a2 a3 a4 s a6 a7 a8) (fun j s => ∀ i, i < j → s i = a1 i) 36 0 a5 (by omega) (fun i hi => absurd hi (by omega)) ?_ ?_
  · intro n s hs
    refine pk_le 36 36 (fun _ => ?_) (fun z => absurd z (by omega))
    have hE' : cf_E p q c s := fun i j hi hj => by rw [hs _ (by omega), hE i j hi hj]
    have hV : ∀ i, i < 36 → cf_V (30 * 3 ^ 0) (s i) := by
      intro i hi
      have e := hE' (i / 6) (i % 6) (by omega) (by omega)
      rw [show i / 6 * 6 + i % 6 = i by omega] at e
      rw [e]
      refine cf_V_of ?_ (by decide)
      unfold cf_e
      split <;> omega
    refine pk_loop (fun n f (s : Int32 × Int32 × (Nat → Int32) × (Nat → Int32)) => wX_least_34 post n s.1 s.2.1 (nI f) f0 a1 a2 a3 a4 s.2.2.1 s.2.2.2 a7 a8)
      (fun f s => ∃ β T, s.1 = nI β ∧ β ≤ 1048576 ∧ s.2.1 = nI T ∧ T < 64 ∧ cf_pc T = 6 - f ∧ (∀ i, i < 36 → cf_V (30 * 3 ^ f) (s.2.2.1 i)) ∧ cf_Q p q c f β T s.2.2.1)
      5 0 (nI 1048576, nI 63, s, a6) (by omega) ⟨1048576, 63, rfl, by omega, rfl, by omega, by decide, hV, ?_⟩ ?_ ?_
    · rcases Nat.eq_zero_or_pos c with hz | hz
      · subst hz
        refine Or.inr (Or.inl ⟨by omega, fun i j hi hj _ _ => ?_⟩)
        show s (i * 6 + j) = nI 0
        rw [hE' i j hi hj]
        unfold cf_e
        rw [ite_self]
      · exact Or.inr (Or.inr ⟨rfl, rfl, hE', hz⟩)
    · intro n s ⟨β, T, e1, _, _, _, _, _, hQ⟩
      have hβ : β = 0 := by
        rcases hQ with h | h | h
        · exact h
        · exact absurd h.1 (by omega)
        · exact absurd h.1 (by omega)
      subst hβ
      refine pk_le 5 5 (fun _ => ?_) (fun z => absurd z (by omega))
      rw [e1]
      exact H _ _
    · intro n f s hf ⟨β, T, e1, hβ, e2, hT, hpc, hV', hQ⟩ hw
      obtain ⟨x1, x2, b5, b6⟩ := s
      have e1' : x1 = nI β := e1
      have e2' : x2 = nI T := e2
      subst e1'
      subst e2'
      have h3 : 3 ^ f ≤ 3 ^ 4 := Nat.pow_le_pow_right (by omega) (by omega)
      have hB : 30 * 3 ^ f ≤ 100000 := by omega
      have hVb : ∀ i, i < 36 → cf_V (30 * 3 ^ f) (b5 i) := hV'
      have hQb : cf_Q p q c f β T b5 := hQ
      have h3s : 3 * (30 * 3 ^ f) = 30 * 3 ^ (f + 1) := by
        rw [Nat.pow_succ]
        omega
      have next : ∀ l c5 c6 β', l < 6 → T.testBit l = true → β' ≤ 1048576 → (∀ i, i < 36 → cf_V (3 * (30 * 3 ^ f)) (c5 i)) → cf_Q p q c (f + 1) β' (T &&& (63 - 2 ^ l)) c5 → wX_least_34 post n (nI β') (nI (T &&& (63 - 2 ^ l))) (nI (f + 1)) f0 a1 a2 a3 a4 c5 c6 a7 a8 := by
        intro l c5 c6 β' hl hTl hβ' hV5 hQ5
        refine hw (nI β', nI (T &&& (63 - 2 ^ l)), c5, c6) ⟨β', _, rfl, hβ', rfl, (cf_clrB T hT l hl).1, ?_, ?_, hQ5⟩
        · have := cf_pc_clr T hT l hl hTl
          omega
        · rw [← h3s]
          exact hV5
      refine pk_le 5 f (fun z => absurd z (by omega)) (fun _ => ?_)
      rcases hQb with h | ⟨h, hz⟩ | ⟨h, hT63, hEb, hc0⟩
      · subst h
        refine cf_l51 (fun _ _ _ _ => True) hT hB hVb (by omega) hpc hβ trivial (fun _ _ _ _ _ _ _ _ _ _ _ => trivial) (fun l b t c6 hl hb hbl hTl hTb _ => cf_l108 (fun _ => False) hT hb hl hbl hB hVb (fun _ _ _ _ z => absurd z not_false) (fun c5 g1 _ => ?_))
        rw [Nat.zero_min]
        exact next l c5 c6 0 hl hTl (by omega) g1 (Or.inl rfl)
      · refine cf_l51 (fun _ _ _ t => t = 0) hT hB hVb (by omega) hpc hβ rfl (fun A l b t v hA hsub _ hv hW _ => cf_T_z hz hv hW.1 hsub) (fun l b t c6 hl hb hbl hTl hTb ht => cf_l108 (fun _ => False) hT hb hl hbl hB hVb (fun _ _ _ _ z => absurd z not_false) (fun c5 g1 _ => ?_))
        have ht' : t = 0 := ht
        subst ht'
        rw [Nat.min_zero]
        exact next l c5 c6 0 hl hTl (by omega) g1 (Or.inl rfl)
      · subst hT63
        refine cf_l51 (cf_K p q) hT hB hVb (by omega) hpc hβ (Or.inl ⟨Nat.zero_testBit p, Nat.zero_testBit q⟩) (fun A l b t v hA hsub hK hv hW hmax => cf_Kstep hEb hp hq hpq hc0 hc cf_63 hK hv hW hmax) (fun l b t c6 hl hb hbl hTl hTb hK => ?_)
        have hK4 : t = 0 ∨ ((l = p ∧ b = q) ∨ (l = q ∧ b = p)) := by
          rcases hK with k | k | k | k
          · have := k.1
            rw [cf_63 p hp] at this
            exact absurd this (by decide)
          · have := k.2.1
            rw [cf_63 q hq] at this
            exact absurd this (by decide)
          · have := k.2.1
            rw [cf_63 p hp] at this
            exact absurd this (by decide)
          · rcases k.2.2 with k | k | k
            · exact Or.inl k
            · exact Or.inr (Or.inl ⟨(nI_eq (by omega) (by omega)).mp k.1, (nI_eq (by omega) (by omega)).mp k.2⟩)
            · exact Or.inr (Or.inr ⟨(nI_eq (by omega) (by omega)).mp k.1, (nI_eq (by omega) (by omega)).mp k.2⟩)
        rcases hK4 with ht | hlb
        · subst ht
          refine cf_l108 (fun _ => False) hT hb hl hbl hB hVb (fun _ _ _ _ z => absurd z not_false) (fun c5 g1 _ => ?_)
          rw [Nat.min_zero]
          exact next l c5 c6 0 hl hTl (by omega) g1 (Or.inl rfl)
        · refine cf_l108 (fun _ => True) hT hb hl hbl hB hVb (fun i j hi hj _ _ hn => ?_) (fun c5 g1 g2 => next l c5 c6 (min β t) hl hTl (by omega) g1 (Or.inr (Or.inl ⟨by omega, fun i j hi hj ti tj => g2 trivial trivial i j hi hj trivial trivial ?_ ?_⟩)))
          · show b5 (i * 6 + j) = nI 0
            rw [hEb i j hi hj, show cf_e p q c i j = 0 from if_neg (by omega)]
          · intro e
            subst e
            rw [(cf_clrB 63 hT i hl).2 i hi] at ti
            simp at ti
          · intro e
            subst e
            rw [(cf_clrB 63 hT j hl).2 j hj] at tj
            simp at tj
  · intro n j s hj h hw
    refine pk_le 36 j (fun z => absurd z (by omega)) (fun _ => ⟨pk_in j 36 hj, pk_in j 36 hj, nm_r (e' := upd s j (a1 j)) (by rw [nI_clamp (by omega)]) (nm_r (nI_1 j) (hw _ ?_))⟩)
    intro i hi
    by_cases e : i = j
    · subst e
      exact pk_us
    · rw [pk_un e]
      exact h i (by omega)
/-- loss where the pair asked for is the link -/
theorem cf_loss {post : Int32 → St2 → Prop} {f0 : Int32} {a1 a2 a3 a4 a5 a6 a7 a8 : Nat → Int32} {x y : Int32} {p q c : Nat} (hc : c ≤ 30) (hE : cf_P x ∧ cf_P y ∧ ¬ x = y → cf_E p q c a1 ∧ x = nI p ∧ y = nI q ∧ p < 6 ∧ q < 6 ∧ p ≠ q)
    (h1 : ∀ u, (cf_P x ∧ cf_P y ∧ ¬ x = y) → post 0 u) (h0 : ∀ u, ¬ (cf_P x ∧ cf_P y ∧ ¬ x = y) → post (-1) u) : wpX_loss post (f0, a1, a2, a3, a4, a5, a6, a7, a8) x y := by
  unfold wpX_loss
  refine cf_pair (fun i j hi hj hij ex ey => br_f (by decide) ?_) (fun h => br_t rfl (h0 _ h))
  have hpair : cf_P x ∧ cf_P y ∧ ¬ x = y := by
    refine ⟨⟨i, hi, ex⟩, ⟨j, hj, ey⟩, ?_⟩
    rw [ex, ey, nI_eq (by omega) (by omega)]
    exact hij
  obtain ⟨hE1, ex', ey', hp, hq, hpq⟩ := hE hpair
  have h := fun u => h1 u hpair
  subst ex'
  subst ey'
  refine ⟨cf_in36 hp hq, nm_r (e' := nI c) ?_ ?_⟩
  · rw [cf_cl hp hq, hE1 p q hp hq, cf_e_pq]
  · refine cf_least hp hq hpq hc hE1 (fun b5 b6 => cf_put (d := 0) hp hq hE1 (fun b1 hE2 => cf_least hp hq hpq (by omega) hE2 (fun c5 c6 => cf_put hp hq hE2 (fun c1 _ => ?_))))
    exact h _
end
section
/-! the law's own tests, out of the answers -/
def cf_Pr (a b : Int32) : Prop := cf_P a ∧ cf_P b ∧ ¬ a = b
def cf_Gd (a b c : Int32) : Prop := cf_Pr a b ∧ cf_C c
def cf_Is (d : Int32) : Prop := ¬ (d < 1 ∨ 62 < d)
def cf_Cut (a b c d : Int32) : Prop := cf_Gd a b c ∧ (((d >>> (a &&& 31)) ^^^ (d >>> (b &&& 31))) &&& 1) = 1
/-- a flag says P -/
def cf_fl (x : Int32) (P : Prop) : Prop := (x = 1 ∧ P) ∨ (x = 0 ∧ ¬ P)
theorem cf_fl1 {P : Prop} (h : P) : cf_fl 1 P := Or.inl ⟨rfl, h⟩
theorem cf_fl0 {P : Prop} (h : ¬ P) : cf_fl 0 P := Or.inr ⟨rfl, h⟩
theorem cf_br {x : Int32} {P A B : Prop} (h : cf_fl x P) (f : ¬ P → A) (g : P → B) : (x = 0 → A) ∧ (¬ x = 0 → B) := by
  rcases h with ⟨e, hp⟩ | ⟨e, hn⟩
  · subst e
    exact br_f (by decide) (g hp)
  · subst e
    exact br_t rfl (f hn)
theorem cf_range {x : Int32} {A B : Prop} (hA : ¬ cf_P x → A) (hB : cf_P x → B) : (x < 0 → A) ∧ (¬ x < 0 → ((5 < x → A) ∧ (¬ 5 < x → B))) := by
  rcases pk_ix x (n := 6) (by omega) with h | h | ⟨j, hj, e⟩
  · exact br_t h (hA (cf_nP (Or.inl h)))
  · exact br_c (fun _ => hA (cf_nP (Or.inr h))) (fun _ => br_t (cf_succ (k := 5) (by omega) h).1 (hA (cf_nP (Or.inr h))))
  · have hP : cf_P x := ⟨j, hj, e⟩
    have h := hB hP
    subst e
    exact br_f (nI_pos (by omega)) (br_f (nI_nlt (a := 5) (by omega) (by omega)) h)
theorem cf_law {post : Int32 → St0 → Prop} {mc ms kc ks : Nat} {a b c d x r6 r7 r8 r9 r10 r11 : Int32} (hp : post 1 ())
    (s1 : cf_Gd a b c → r6 = 1) (s0 : ¬ cf_Gd a b c → r6 = 0)
    (k0 : ¬ cf_Pr a b → r7 = -1) (k1 : cf_Pr a b → ¬ cf_Gd a b c → r7 = 0) (k2 : cf_Gd a b c → r7 = c)
    (c0 : ¬ cf_Is d → r8 = -1) (c1 : cf_Is d → ¬ cf_Cut a b c d → r8 = 0) (c2 : cf_Is d → cf_Cut a b c d → r8 = c)
    (f0 : ¬ cf_Pr a x → r9 = -1) (f1 : cf_Pr a x → cf_Gd a b c → x = b → r9 = c) (f2 : cf_Pr a x → ¬ (cf_Gd a b c ∧ x = b) → r9 = 0)
    (n0 : ¬ cf_P a → r10 = 0) (n1 : cf_P a → ¬ cf_Gd a b c → r10 = (1 : Int32) <<< (a &&& 31)) (n2 : cf_Gd a b c → c ≤ 0 → r10 = (1 : Int32) <<< (a &&& 31)) (n3 : cf_Gd a b c → ¬ c ≤ 0 → r10 = ((1 : Int32) <<< (a &&& 31)) ||| ((1 : Int32) <<< (b &&& 31)))
    (l0 : ¬ cf_Pr a b → r11 = -1) (l1 : cf_Pr a b → r11 = 0) :
    (a < 0 → wL_lawOf_77 post mc ms a b c d x r6 r7 r8 r9 r10 r11 kc ks) ∧ (¬ a < 0 → ((5 < a → wL_lawOf_77 post mc ms a b c d x r6 r7 r8 r9 r10 r11 kc ks) ∧ (¬ 5 < a → wL_lawOf_78 post mc ms a b c d x r6 r7 r8 r9 r10 r11 1 kc ks))) := by
  have n330 : ∀ x15 z0 z1, cf_fl x15 (cf_Pr a b) → z1 = z0 → wL_lawOf_330 post mc ms r11 x15 z0 z1 kc ks :=
    fun x15 z0 z1 h15 e => br_t e (cf_br h15 (fun z => br_t (l0 z) hp) (fun z => br_t (l1 z) hp))
  have n294 : ∀ x12 x15 x16 z0 z1, cf_fl x12 (cf_P a) → cf_fl x15 (cf_Pr a b) → cf_fl x16 (cf_Gd a b c) → z1 = z0 → wL_lawOf_294 post mc ms a b c r10 r11 x12 x15 x16 z0 z1 kc ks :=
    fun x12 x15 x16 z0 z1 h12 h15 h16 e => br_t e (cf_br h12 (fun z => n330 x15 _ _ h15 (n0 z)) (fun z => cf_br h16 (fun g => n330 x15 _ _ h15 (n1 z g)) (fun g => br_c (fun y => n330 x15 _ _ h15 (n2 g y)) (fun y => n330 x15 _ _ h15 (n3 g y)))))
  have n253 : ∀ x12 x14 x15 x16 z0 z1, cf_fl x12 (cf_P a) → cf_fl x14 (cf_P x) → cf_fl x15 (cf_Pr a b) → cf_fl x16 (cf_Gd a b c) → z1 = z0 → wL_lawOf_253 post mc ms a b c x r9 r10 r11 x12 x14 x15 x16 z0 z1 kc ks :=
    fun x12 x14 x15 x16 z0 z1 h12 h14 h15 h16 e => br_t e (cf_br h12 (fun z => n294 x12 x15 x16 _ _ h12 h15 h16 (f0 (fun t => z t.1))) (fun za => cf_br h14 (fun z => n294 x12 x15 x16 _ _ h12 h15 h16 (f0 (fun t => z t.2.1))) (fun zx => br_c (fun z => n294 x12 x15 x16 _ _ h12 h15 h16 (f0 (fun t => t.2.2 z))) (fun zn => cf_br h16 (fun z => n294 x12 x15 x16 _ _ h12 h15 h16 (f2 ⟨za, zx, zn⟩ (fun t => z t.1))) (fun zg => br_c (fun z => n294 x12 x15 x16 _ _ h12 h15 h16 (f1 ⟨za, zx, zn⟩ zg z)) (fun z => n294 x12 x15 x16 _ _ h12 h15 h16 (f2 ⟨za, zx, zn⟩ (fun t => z t.2))))))))
  have n229 : ∀ x12 x14 x15 x16 x17 x18 z0 z1, cf_fl x12 (cf_P a) → cf_fl x14 (cf_P x) → cf_fl x15 (cf_Pr a b) → cf_fl x16 (cf_Gd a b c) → cf_fl x17 (cf_Is d) → cf_fl x18 (cf_Cut a b c d) → z1 = z0 → wL_lawOf_229 post mc ms a b c x r8 r9 r10 r11 x12 x14 x15 x16 x17 x18 z0 z1 kc ks :=
    fun x12 x14 x15 x16 x17 x18 z0 z1 h12 h14 h15 h16 h17 h18 e => br_t e (cf_br h17 (fun z => n253 x12 x14 x15 x16 _ _ h12 h14 h15 h16 (c0 z)) (fun z => cf_br h18 (fun y => n253 x12 x14 x15 x16 _ _ h12 h14 h15 h16 (c1 z y)) (fun y => n253 x12 x14 x15 x16 _ _ h12 h14 h15 h16 (c2 z y))))
  have n199 : ∀ x12 x14 x15 x16 x17 x18, cf_fl x12 (cf_P a) → cf_fl x14 (cf_P x) → cf_fl x15 (cf_Pr a b) → cf_fl x16 (cf_Gd a b c) → cf_fl x17 (cf_Is d) → cf_fl x18 (cf_Cut a b c d) → wL_lawOf_199 post mc ms a b c x r6 r7 r8 r9 r10 r11 x12 x14 x15 x16 x17 x18 kc ks := by
    intro x12 x14 x15 x16 x17 x18 h12 h14 h15 h16 h17 h18
    refine br_t ?_ (cf_br h15 (fun z => n229 x12 x14 x15 x16 x17 x18 _ _ h12 h14 h15 h16 h17 h18 (k0 z)) (fun z => cf_br h16 (fun y => n229 x12 x14 x15 x16 x17 x18 _ _ h12 h14 h15 h16 h17 h18 (k1 z y)) (fun y => n229 x12 x14 x15 x16 x17 x18 _ _ h12 h14 h15 h16 h17 h18 (k2 y))))
    rcases h16 with ⟨e, g⟩ | ⟨e, g⟩
    · rw [e, s1 g]
    · rw [e, s0 g]
  have n174 : ∀ x12 x14 x15 x16 x17, cf_fl x12 (cf_P a) → cf_fl x14 (cf_P x) → cf_fl x15 (cf_Pr a b) → cf_fl x16 (cf_Gd a b c) → cf_fl x17 (cf_Is d) → wL_lawOf_174 post mc ms a b c d x r6 r7 r8 r9 r10 r11 x12 x14 x15 x16 x17 kc ks :=
    fun x12 x14 x15 x16 x17 h12 h14 h15 h16 h17 => cf_br h16 (fun z => n199 x12 x14 x15 x16 x17 0 h12 h14 h15 h16 h17 (cf_fl0 (fun t => z t.1))) (fun z => br_c (fun y => n199 x12 x14 x15 x16 x17 1 h12 h14 h15 h16 h17 (cf_fl1 ⟨z, y⟩)) (fun y => n199 x12 x14 x15 x16 x17 0 h12 h14 h15 h16 h17 (cf_fl0 (fun t => y t.2))))
  have n156 : ∀ x12 x14 x15 x16, cf_fl x12 (cf_P a) → cf_fl x14 (cf_P x) → cf_fl x15 (cf_Pr a b) → cf_fl x16 (cf_Gd a b c) → wL_lawOf_156 post mc ms a b c d x r6 r7 r8 r9 r10 r11 x12 x14 x15 x16 kc ks :=
    fun x12 x14 x15 x16 h12 h14 h15 h16 => br_c (fun z => n174 x12 x14 x15 x16 0 h12 h14 h15 h16 (cf_fl0 (fun t => t (Or.inl z)))) (fun z => br_c (fun y => n174 x12 x14 x15 x16 0 h12 h14 h15 h16 (cf_fl0 (fun t => t (Or.inr y)))) (fun y => n174 x12 x14 x15 x16 1 h12 h14 h15 h16 (cf_fl1 (fun t => t.elim z y))))
  have n134 : ∀ x12 x14 x15, cf_fl x12 (cf_P a) → cf_fl x14 (cf_P x) → cf_fl x15 (cf_Pr a b) → wL_lawOf_134 post mc ms a b c d x r6 r7 r8 r9 r10 r11 x12 x14 x15 kc ks := by
    intro x12 x14 x15 h12 h14 h15
    have bad : ¬ cf_Gd a b c → wL_lawOf_156 post mc ms a b c d x r6 r7 r8 r9 r10 r11 x12 x14 x15 0 kc ks := fun z => n156 x12 x14 x15 0 h12 h14 h15 (cf_fl0 z)
    refine cf_br h15 (fun z => bad (fun t => z t.1)) (fun z => ?_)
    rcases pk_ix c (n := 31) (by omega) with h | h | ⟨n, hn, e⟩
    · exact br_t h (bad (fun t => cf_nC (Or.inl h) t.2))
    · exact br_c (fun _ => bad (fun t => cf_nC (Or.inr h) t.2)) (fun _ => br_t (cf_succ (k := 30) (by omega) h).1 (bad (fun t => cf_nC (Or.inr h) t.2)))
    · have hC : cf_C c := ⟨n, by omega, e⟩
      have good := n156 x12 x14 x15 1 h12 h14 h15 (cf_fl1 ⟨z, hC⟩)
      refine br_f ?_ (br_f ?_ good)
      · rw [e]
        exact nI_pos (by omega)
      · rw [e]
        exact nI_nlt (a := 30) (by omega) (by omega)
  have n112 : ∀ x12 x13 x14, cf_fl x12 (cf_P a) → cf_fl x13 (cf_P b) → cf_fl x14 (cf_P x) → wL_lawOf_112 post mc ms a b c d x r6 r7 r8 r9 r10 r11 x12 x13 x14 kc ks :=
    fun x12 x13 x14 h12 h13 h14 => cf_br h12 (fun z => n134 x12 x14 0 h12 h14 (cf_fl0 (fun t => z t.1))) (fun za => cf_br h13 (fun z => n134 x12 x14 0 h12 h14 (cf_fl0 (fun t => z t.2.1))) (fun zb => br_c (fun z => n134 x12 x14 0 h12 h14 (cf_fl0 (fun t => t.2.2 z))) (fun z => n134 x12 x14 1 h12 h14 (cf_fl1 ⟨za, zb, z⟩))))
  have n94 : ∀ x12 x13, cf_fl x12 (cf_P a) → cf_fl x13 (cf_P b) → wL_lawOf_94 post mc ms a b c d x r6 r7 r8 r9 r10 r11 x12 x13 kc ks :=
    fun x12 x13 h12 h13 => cf_range (fun z => n112 x12 x13 0 h12 h13 (cf_fl0 z)) (fun z => n112 x12 x13 1 h12 h13 (cf_fl1 z))
  have n78 : ∀ x12, cf_fl x12 (cf_P a) → wL_lawOf_78 post mc ms a b c d x r6 r7 r8 r9 r10 r11 x12 kc ks :=
    fun x12 h12 => cf_range (fun z => n94 x12 0 h12 (cf_fl0 z)) (fun z => n94 x12 1 h12 (cf_fl1 z))
  exact cf_range (fun z => n78 0 (cf_fl0 z)) (fun z => n78 1 (cf_fl1 z))
end
section
/-! each method's answer as the law asks for it, and the law -/
/-- the script's link is set, or the capacities stay as they were -/
theorem cf_setG {post : Int32 → St2 → Prop} {f0 : Int32} {a1 a2 a3 a4 a5 a6 a7 a8 : Nat → Int32} {a b c : Int32} (hE : ∀ p q, cf_E p q 0 a1)
    (H : ∀ r p q n a1', p < 6 → q < 6 → p ≠ q → n ≤ 30 → cf_E p q n a1' → (cf_Pr a b → a = nI p ∧ b = nI q) → (cf_Gd a b c → r = 1 ∧ c = nI n) → (¬ cf_Gd a b c → r = 0 ∧ n = 0) → post r (f0, a1', a2, a3, a4, a5, a6, a7, a8)) : wpX_set post (f0, a1, a2, a3, a4, a5, a6, a7, a8) a b c := by
  refine cf_set hE (fun i j n a1' hi hj hij hn ea eb ec h => ?_) (fun h => ?_)
  · have hne : ¬ a = b := by
      rw [ea, eb, nI_eq (by omega) (by omega)]
      exact hij
    exact H 1 i j n a1' hi hj hij hn h (fun _ => ⟨ea, eb⟩) (fun _ => ⟨rfl, ec⟩) (fun z => absurd ⟨⟨⟨i, hi, ea⟩, ⟨j, hj, eb⟩, hne⟩, ⟨n, hn, ec⟩⟩ z)
  · by_cases hp : cf_Pr a b
    · obtain ⟨⟨i, hi, ea⟩, ⟨j, hj, eb⟩, hne⟩ := hp
      refine H 0 i j 0 a1 hi hj ?_ (by omega) (hE i j) (fun _ => ⟨ea, eb⟩) (fun z => absurd z h) (fun _ => ⟨rfl, rfl⟩)
      intro e
      exact hne (by rw [ea, eb, e])
    · exact H 0 0 1 0 a1 (by omega) (by omega) (by omega) (by omega) (hE 0 1) (fun z => absurd z hp) (fun z => absurd z h) (fun _ => ⟨rfl, rfl⟩)
theorem cf_xor : ∀ m, m < 63 → ∀ p, p < 6 → ∀ q, q < 6 → (((((nI m >>> (nI p &&& 31)) ^^^ (nI m >>> (nI q &&& 31))) &&& 1) = 1) ↔ ¬ (m.testBit p = m.testBit q)) := by decide +kernel
theorem cf_cell {post : Int32 → Prop} {L : Nat} {xs : Nat → Int32} {u : St0} {k : Nat} (hL : L ≤ 5) (hk : k ≤ 4) (H : ∀ r, post r) : wpL_cellAt post L xs u (nI k) := by
  unfold wpL_cellAt
  exact pk_le L k (fun _ => H _) (fun z => ⟨vp_in_nI z (by omega), H _⟩)
theorem cf_n {j k : Nat} {x : Int32} (hj : j < 6) (hk : k < 6) (h1 : x = nI j) (h2 : x = nI k) : j = k := (nI_eq (by omega) (by omega)).mp (h1.symm.trans h2)
theorem cf_ne {j k : Nat} {x y : Int32} (hj : j < 6) (hk : k < 6) (hjk : j ≠ k) (h1 : x = nI j) (h2 : y = nI k) : cf_Pr x y := by
  refine ⟨⟨j, hj, h1⟩, ⟨k, hk, h2⟩, ?_⟩
  rw [h1, h2, nI_eq (by omega) (by omega)]
  exact hjk
theorem cf_capG {post : Int32 → Prop} {f0 : Int32} {a1 a2 a3 a4 a5 a6 a7 a8 : Nat → Int32} {a b : Int32} {p q n : Nat} (hp : p < 6) (hq : q < 6) (hE : cf_E p q n a1) (hab : cf_Pr a b → a = nI p ∧ b = nI q)
    (H : ∀ r, (¬ cf_Pr a b → r = -1) → (cf_Pr a b → r = nI n) → post r) : wpX_capacity post (f0, a1, a2, a3, a4, a5, a6, a7, a8) b a := by
  refine cf_capacity hE (fun i j hi hj hij eb ea => H _ (fun z => absurd (cf_ne hj hi (Ne.symm hij) ea eb) z) (fun z => ?_)) (fun h => H _ (fun _ => rfl) (fun z => absurd ⟨z.2.1, z.1, fun e => z.2.2 e.symm⟩ h))
  obtain ⟨ea', eb'⟩ := hab z
  rw [cf_n hi hq eb eb', cf_n hj hp ea ea', cf_e_qp]
theorem cf_costG {post : Int32 → Prop} {f0 : Int32} {a1 a2 a3 a4 a5 a6 a7 a8 : Nat → Int32} {a b c d : Int32} {p q n : Nat} (hp : p < 6) (hq : q < 6) (hpq : p ≠ q) (hE : cf_E p q n a1) (hab : cf_Pr a b → a = nI p ∧ b = nI q) (hg : cf_Gd a b c → c = nI n) (hng : ¬ cf_Gd a b c → n = 0)
    (H : ∀ r, (¬ cf_Is d → r = -1) → (cf_Is d → ¬ cf_Cut a b c d → r = 0) → (cf_Is d → cf_Cut a b c d → r = c) → post r) : wpX_cost post (f0, a1, a2, a3, a4, a5, a6, a7, a8) d := by
  refine cf_cost hpq hp hq hE (fun h => H _ (fun _ => rfl) (fun z => absurd h z) (fun z => absurd h z)) (fun m m1 m2 ed => ?_)
  have is : cf_Is d := by
    intro h
    rw [ed] at h
    rcases h with h | h
    · exact nI_nlt (b := 1) m1 (by omega) h
    · exact nI_nlt (a := 62) (by omega) (by omega) h
  refine H _ (fun z => absurd is z) (fun _ h => ?_) (fun _ h => ?_)
  · by_cases hG : cf_Gd a b c
    · have hx : ¬ ((((d >>> (a &&& 31)) ^^^ (d >>> (b &&& 31))) &&& 1) = 1) := fun z => h ⟨hG, z⟩
      obtain ⟨ea, eb⟩ := hab hG.1
      rw [ed, ea, eb, cf_xor m m2 p hp q hq] at hx
      rw [if_pos (Decidable.not_not.mp hx)]
      rfl
    · rw [hng hG, ite_self]
      rfl
  · have hx := h.2
    obtain ⟨ea, eb⟩ := hab h.1.1
    rw [ed, ea, eb, cf_xor m m2 p hp q hq] at hx
    rw [if_neg hx, hg h.1]
theorem cf_betG {post : Int32 → St2 → Prop} {f0 : Int32} {a1 a2 a3 a4 a5 a6 a7 a8 : Nat → Int32} {a b c x : Int32} {p q n : Nat} (hp : p < 6) (hq : q < 6) (hpq : p ≠ q) (hn : n ≤ 30) (hE : cf_E p q n a1) (hab : cf_Pr a b → a = nI p ∧ b = nI q) (hg : cf_Gd a b c → c = nI n) (hng : ¬ cf_Gd a b c → n = 0)
    (H : ∀ r f b2 b3 b4, (¬ cf_Pr a x → r = -1) → (cf_Pr a x → cf_Gd a b c → x = b → r = c) → (cf_Pr a x → ¬ (cf_Gd a b c ∧ x = b) → r = 0) → post r (f, a1, b2, b3, b4, a5, a6, a7, a8)) : wpX_between post (f0, a1, a2, a3, a4, a5, a6, a7, a8) a x := by
  refine cf_between hpq hp hq hn hE (fun i j f b2 b3 b4 hi hj hij ea ex => H _ f b2 b3 b4 (fun z => absurd (cf_ne hi hj hij ea ex) z) (fun _ hG exb => ?_) (fun _ hG => ?_)) (fun h => H _ _ _ _ _ (fun _ => rfl) (fun z => absurd z h) (fun z => absurd z h))
  · obtain ⟨ea', eb'⟩ := hab hG.1
    rw [cf_n hi hp ea ea', cf_n hj hq (exb.symm.trans ex).symm.symm eb', cf_e_pq, hg hG]
  · by_cases hG' : cf_Gd a b c
    · obtain ⟨ea', eb'⟩ := hab hG'.1
      have hjq : j ≠ q := by
        intro e
        refine hG ⟨hG', ?_⟩
        rw [ex, eb', e]
      rw [cf_n hi hp ea ea', cf_e_o hjq hpq]
      rfl
    · rw [hng hG']
      unfold cf_e
      rw [ite_self]
      rfl
theorem cf_groG {post : Int32 → St2 → Prop} {f0 : Int32} {a1 a2 a3 a4 a5 a6 a7 a8 : Nat → Int32} {a b c : Int32} {p q n : Nat} (hp : p < 6) (hq : q < 6) (hpq : p ≠ q) (hn : n ≤ 30) (hE : cf_E p q n a1) (hab : cf_Pr a b → a = nI p ∧ b = nI q) (hg : cf_Gd a b c → c = nI n) (hng : ¬ cf_Gd a b c → n = 0)
    (H : ∀ r f b2 b3 b4 b7 b8, (¬ cf_P a → r = 0) → (cf_P a → ¬ cf_Gd a b c → r = (1 : Int32) <<< (a &&& 31)) → (cf_Gd a b c → c ≤ 0 → r = (1 : Int32) <<< (a &&& 31)) → (cf_Gd a b c → ¬ c ≤ 0 → r = ((1 : Int32) <<< (a &&& 31)) ||| ((1 : Int32) <<< (b &&& 31))) → post r (f, a1, b2, b3, b4, a5, a6, b7, b8)) : wpX_group post (f0, a1, a2, a3, a4, a5, a6, a7, a8) a 1 := by
  refine cf_group hpq hp hq hn hE (fun i f b2 b3 b4 b7 b8 hi ea => H _ f b2 b3 b4 b7 b8 (fun z => absurd ⟨i, hi, ea⟩ z) (fun _ hG => ?_) (fun hG h => ?_) (fun hG h => ?_)) (fun h => H _ _ _ _ _ _ _ (fun _ => rfl) (fun z => absurd z h) (fun z => absurd z.1.1 h) (fun z => absurd z.1.1 h))
  · rw [hng hG, ea, cf_sh i hi]
    unfold cf_gr
    rw [if_neg (by omega), if_neg (by omega)]
  · have h' : n = 0 := by
      rw [hg hG] at h
      rcases Nat.eq_zero_or_pos n with z | z
      · exact z
      · exact absurd h (nI_nle z (by omega))
    rw [h', ea, cf_sh i hi]
    unfold cf_gr
    rw [if_neg (by omega), if_neg (by omega)]
  · have h' : 0 < n := by
      rcases Nat.eq_zero_or_pos n with z | z
      · rw [hg hG, z] at h
        exact absurd (show nI 0 ≤ 0 by decide) h
      · exact z
    obtain ⟨ea', eb'⟩ := hab hG.1
    have eip : i = p := cf_n hi hp ea ea'
    rw [ea', eb', cf_sh p hp, cf_or (2 ^ p) (cf_pl p hp) q hq]
    unfold cf_gr
    rw [if_pos ⟨h', eip⟩, eip]
theorem cf_all (mc ms : Nat) (a b c d x : Int32) (h1 : 9 ≤ mc) (h2 : 149 ≤ ms) : wpL_lawOf (fun r _ => r = 1) mc ms () a b c d x := by
  unfold wpL_lawOf
  refine ⟨by omega, by omega, 8, 140, by omega, by omega, ?_⟩
  refine ⟨by omega, by omega, by omega, by omega, by omega, by omega, by omega, by omega, by omega, by omega, by omega, by omega, by omega, by omega, by omega, by omega, ?_⟩
  refine cf_setG (fun p q => cf_E_z) (fun r6 p q n a1 hp hq hpq hn hE hab hg hng => ?_)
  refine cf_capG hp hq hE hab (fun r7 k0 k1 => ?_)
  refine cf_costG hp hq hpq hE hab (fun z => (hg z).2) (fun z => (hng z).2) (fun r8 c0 c1 c2 => ?_)
  refine cf_betG hp hq hpq hn hE hab (fun z => (hg z).2) (fun z => (hng z).2) (fun r9 f b2 b3 b4 f0 f1 f2 => ?_)
  refine cf_groG hp hq hpq hn hE hab (fun z => (hg z).2) (fun z => (hng z).2) (fun r10 f' d2 d3 d4 d7 d8 n0 n1 n2 n3 => ?_)
  have fin := fun r11 => cf_law (post := fun r _ => r = 1) (mc := mc) (ms := ms) (kc := 1 + 8) (ks := 9 + 140) (a := a) (b := b) (c := c) (d := d) (x := x) (r6 := r6) (r7 := r7) (r8 := r8) (r9 := r9) (r10 := r10) (r11 := r11) rfl (fun z => (hg z).1) (fun z => (hng z).1) k0 (fun z y => (k1 z).trans (by rw [(hng y).2]; rfl)) (fun z => (k1 z.1).trans (hg z).2.symm) c0 c1 c2 f0 f1 f2 n0 n1 n2 n3
  refine cf_loss (p := p) (q := q) hn (fun z => ⟨hE, (hab z).1, (hab z).2, hp, hq, hpq⟩) (fun u z => ?_) (fun u z => ?_)
  · exact fin 0 (fun y => absurd z y) (fun _ => rfl)
  · exact fin (-1) (fun _ => rfl) (fun y => absurd y z)
theorem i_vc (xs : Nat → Int32) (L : Nat) (hL : L ≤ 5) : wpL_law (fun r => r = 1) L xs := by
  unfold wpL_law
  exact cf_cell (k := 0) hL (by omega) (fun r1 => cf_cell (k := 1) hL (by omega) (fun r2 => cf_cell (k := 2) hL (by omega) (fun r3 => cf_cell (k := 3) hL (by omega) (fun r4 => cf_cell (k := 4) hL (by omega) (fun r5 => ⟨9, 149, by omega, by omega, cf_all 9 149 r1 r2 r3 r4 r5 (by omega) (by omega)⟩)))))
end
