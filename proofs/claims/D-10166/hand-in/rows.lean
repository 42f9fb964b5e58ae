section
/-- an array of naturals as the ints that it holds -/
def qj_v (f : Nat → Nat) : Nat → Int32 := fun k => nI (f k)
/-- a store into an array of naturals -/
def qj_u (f : Nat → Nat) (k x : Nat) : Nat → Nat := fun j => if j = k then x else f j
theorem qj_ve (f : Nat → Nat) (k : Nat) : qj_v f k = nI (f k) := rfl
theorem qj_us {f : Nat → Nat} {k x : Nat} : qj_u f k x k = x := by
  unfold qj_u
  rw [if_pos rfl]
theorem qj_un {f : Nat → Nat} {k x j : Nat} (h : j ≠ k) : qj_u f k x j = f j := by
  unfold qj_u
  rw [if_neg h]
theorem qj_ule {f : Nat → Nat} {k x N : Nat} (h : ∀ j, f j ≤ N) (hx : x ≤ N) : ∀ j, qj_u f k x j ≤ N := by
  intro j
  by_cases e : j = k
  · rw [e, qj_us]
    exact hx
  · rw [qj_un e]
    exact h j
theorem qj_upd (f : Nat → Nat) (k x : Nat) : upd (qj_v f) k (nI x) = qj_v (qj_u f k x) := by
  funext j
  by_cases h : j = k
  · rw [h, pk_us, qj_ve, qj_us]
  · rw [pk_un h, qj_ve, qj_ve, qj_un h]
/-- the whole state -/
abbrev qj_S (m : Nat) (so ar : Nat → Int32) (sn mb ch : Nat → Nat) (am : Nat → Int32) (kn cv la ls : Nat → Nat) : St1 := (nI m, so, ar, qj_v sn, qj_v mb, qj_v ch, am, qj_v kn, qj_v cv, qj_v la, qj_v ls)
/-! places -/
theorem qj_i24 (t e i : Nat) : ((24 * nI t) + (3 * nI e)) + nI i = nI (24 * t + 3 * e + i) := by
  rw [show (24 : Int32) = nI 24 from rfl, show (3 : Int32) = nI 3 from rfl, pk_mul, pk_mul, nI_add, nI_add]
theorem qj_i24b (t e : Nat) : (24 * nI t) + (3 * nI e) = nI (24 * t + 3 * e) := by
  rw [show (24 : Int32) = nI 24 from rfl, show (3 : Int32) = nI 3 from rfl, pk_mul, pk_mul, nI_add]
theorem qj_i3 (t i : Nat) : (3 * nI t) + nI i = nI (3 * t + i) := by
  rw [show (3 : Int32) = nI 3 from rfl, pk_mul, nI_add]
theorem qj_i49 (t i : Nat) : (49 * nI t) + nI i = nI (49 * t + i) := by
  rw [show (49 : Int32) = nI 49 from rfl, pk_mul, nI_add]
theorem qj_i4 (j : Nat) : nI j + 4 = nI (j + 4) := by
  rw [show (4 : Int32) = nI 4 from rfl, nI_add]
theorem qj_i2 (j : Nat) : nI j + 2 = nI (j + 2) := by
  rw [show (2 : Int32) = nI 2 from rfl, nI_add]
theorem qj_i33 (j : Nat) : nI j + 3 = nI (j + 3) := by
  rw [show (3 : Int32) = nI 3 from rfl, nI_add]
/-! a row being filled -/
def qj_Fill (b : Nat) (G f0 : Nat → Nat) (p : Nat) (s : Nat → Nat) : Prop := (∀ q, q < p → s (b + q) = G q) ∧ (∀ k, ¬ (b ≤ k ∧ k < b + p) → s k = f0 k)
section
variable {b p w : Nat} {G G' f0 s s' : Nat → Nat}
theorem qj_F0 (b : Nat) (G f0 : Nat → Nat) : qj_Fill b G f0 0 f0 := ⟨fun q h => absurd h (by omega), fun k _ => rfl⟩
theorem qj_Fid (h : ∀ q, q < p → G q = f0 (b + q)) : qj_Fill b G f0 p f0 := ⟨fun q hq => (h q hq).symm, fun k _ => rfl⟩
theorem qj_Fs (h : qj_Fill b G f0 p s) {k x : Nat} (hk : k = b + p) (hx : x = G p) : qj_Fill b G f0 (p + 1) (qj_u s k x) := by
  subst hk hx
  refine ⟨fun q hq => ?_, fun k hk => ?_⟩
  · by_cases e : q = p
    · rw [e, qj_us]
    · rw [qj_un (by omega)]
      exact h.1 q (by omega)
  · rw [qj_un (by omega)]
    exact h.2 k (by omega)
theorem qj_Fa (h : qj_Fill b G f0 p s) : s (b + p) = f0 (b + p) := h.2 _ (by omega)
theorem qj_Fo (h : qj_Fill b G f0 p s) {k : Nat} (hk : k < b ∨ b + p ≤ k) : s k = f0 k := h.2 k (by omega)
theorem qj_Fk (h : qj_Fill b G f0 p s) (hx : G p = f0 (b + p)) : qj_Fill b G f0 (p + 1) s := by
  refine ⟨fun q hq => ?_, fun k hk => h.2 k (by omega)⟩
  by_cases e : q = p
  · rw [e, qj_Fa h, hx]
  · exact h.1 q (by omega)
theorem qj_Fle (h : qj_Fill b G f0 p s) {N : Nat} (hG : ∀ q, q < p → G q ≤ N) (hf : ∀ k, f0 k ≤ N) : ∀ k, s k ≤ N := by
  intro k
  by_cases c : b ≤ k ∧ k < b + p
  · obtain ⟨q, rfl⟩ : ∃ q, k = b + q := ⟨k - b, by omega⟩
    rw [h.1 q (by omega)]
    exact hG q (by omega)
  · rw [h.2 k c]
    exact hf k
theorem qj_Fc (h : qj_Fill b G f0 p s) (h' : qj_Fill (b + p) G' s w s') (hG : ∀ i, i < w → G' i = G (p + i)) : qj_Fill b G f0 (p + w) s' := by
  refine ⟨fun q hq => ?_, fun k hk => ?_⟩
  · by_cases c : q < p
    · rw [h'.2 _ (by omega)]
      exact h.1 q c
    · obtain ⟨i, rfl⟩ : ∃ i, q = p + i := ⟨q - p, by omega⟩
      rw [← Nat.add_assoc, h'.1 i (by omega)]
      exact hG i (by omega)
  · rw [h'.2 k (by omega)]
    exact h.2 k (by omega)
theorem qj_Fcg (h : qj_Fill b G f0 p s) (e : ∀ q, q < p → G q = G' q) : qj_Fill b G' f0 p s := ⟨fun q hq => (h.1 q hq).trans (e q hq), h.2⟩
end
/-! what two replicas' last numbers of one origin leave; what a change that has seen x leaves of v -/
def qj_sv (mine mk other ok : Nat) : Nat := if mine = other then mine else max (if ok < mine then mine else 0) (if mk < other then other else 0)
def qj_dr (v x : Nat) : Nat := if v ≤ x then 0 else v
theorem qj_svle {a ak b bk N : Nat} (ha : a ≤ N) (hb : b ≤ N) : qj_sv a ak b bk ≤ N := by
  unfold qj_sv
  split
  · exact ha
  · split <;> split <;> omega
theorem qj_drle {v x N : Nat} (hv : v ≤ N) : qj_dr v x ≤ N := by
  unfold qj_dr
  split
  · omega
  · exact hv
theorem qj_dr0 {v x : Nat} (h : v ≤ x) : qj_dr v x = 0 := by
  unfold qj_dr
  rw [if_pos h]
theorem qj_drk {v x : Nat} (h : x < v) : qj_dr v x = v := by
  unfold qj_dr
  rw [if_neg (by omega)]
end
section
/-- t is the largest w of the Q-changes that K knows (0 if none) -/
def qj_T (Q : Nat → Nat → Prop) (w : Nat → Nat → Nat) (K : Nat → Nat) (t : Nat) : Prop :=
  (∀ q n, q < 3 → 1 ≤ n → n ≤ K q → Q q n → w q n ≤ t) ∧ (t = 0 ∨ ∃ q n, q < 3 ∧ 1 ≤ n ∧ n ≤ K q ∧ Q q n ∧ w q n = t)
/-- v is the largest P-number in (t, k] (0 if none) -/
def qj_F (P : Nat → Prop) (k t v : Nat) : Prop := (∀ n, t < n → n ≤ k → P n → n ≤ v) ∧ (v = 0 ∨ (t < v ∧ v ≤ k ∧ P v))
section
variable {Q Q' : Nat → Nat → Prop} {w w' : Nat → Nat → Nat} {K K' K1 K2 : Nat → Nat} {t t' t1 t2 : Nat} {P P' : Nat → Prop} {k k1 k2 v v' v1 v2 : Nat}
theorem qj_T_uniq (h : qj_T Q w K t) (h' : qj_T Q w K' t') (e : ∀ q, q < 3 → K q = K' q) : t = t' := by
  have a : t ≤ t' := by
    rcases h.2 with z | ⟨q, n, hq, h1, h2, h3, h4⟩
    · omega
    · have := h'.1 q n hq h1 (by rw [← e q hq]; exact h2) h3
      omega
  have b : t' ≤ t := by
    rcases h'.2 with z | ⟨q, n, hq, h1, h2, h3, h4⟩
    · omega
    · have := h.1 q n hq h1 (by rw [e q hq]; exact h2) h3
      omega
  omega
theorem qj_F_uniq (h : qj_F P k t v) (h' : qj_F P k t v') : v = v' := by
  have a : v ≤ v' := by
    rcases h.2 with z | ⟨h1, h2, h3⟩
    · omega
    · exact h'.1 v h1 h2 h3
  have b : v' ≤ v := by
    rcases h'.2 with z | ⟨h1, h2, h3⟩
    · omega
    · exact h.1 v' h1 h2 h3
  omega
theorem qj_T_le (h : qj_T Q w K t) (e : ∀ q n, q < 3 → 1 ≤ n → n ≤ K q → w q n ≤ k) : t ≤ k := by
  rcases h.2 with z | ⟨q, n, hq, h1, h2, h3, h4⟩
  · omega
  · have := e q n hq h1 h2
    omega
theorem qj_F_le (h : qj_F P k t v) : v ≤ k := by
  rcases h.2 with z | ⟨h1, h2, h3⟩
  · omega
  · exact h2
theorem qj_T_join (h1 : qj_T Q w K1 t1) (h2 : qj_T Q w K2 t2) (e : ∀ q, q < 3 → K q = max (K1 q) (K2 q)) : qj_T Q w K (max t1 t2) := by
  refine ⟨fun q n hq ha hb hQ => ?_, ?_⟩
  · have hk := e q hq
    by_cases c : n ≤ K1 q
    · have := h1.1 q n hq ha c hQ
      omega
    · have := h2.1 q n hq ha (by omega) hQ
      omega
  · by_cases c : t2 ≤ t1
    · rcases h1.2 with z | ⟨q, n, hq, ha, hb, hQ, hw⟩
      · exact Or.inl (by omega)
      · have := e q hq
        exact Or.inr ⟨q, n, hq, ha, by omega, hQ, by omega⟩
    · rcases h2.2 with z | ⟨q, n, hq, ha, hb, hQ, hw⟩
      · exact Or.inl (by omega)
      · have := e q hq
        exact Or.inr ⟨q, n, hq, ha, by omega, hQ, by omega⟩
theorem qj_F_join (h1 : qj_F P k1 t1 v1) (h2 : qj_F P k2 t2 v2) (b1 : t1 ≤ k1) (b2 : t2 ≤ k2) : qj_F P (max k1 k2) (max t1 t2) (qj_sv v1 k1 v2 k2) := by
  obtain ⟨u1, w1⟩ := h1
  obtain ⟨u2, w2⟩ := h2
  unfold qj_sv
  by_cases e : v1 = v2
  · rw [if_pos e]
    refine ⟨fun n ha hb hP => ?_, ?_⟩
    · by_cases c : n ≤ k1
      · exact u1 n (by omega) c hP
      · rw [e]
        exact u2 n (by omega) (by omega) hP
    · rcases w1 with z | ⟨a1, a2, a3⟩
      · exact Or.inl z
      · rcases w2 with z | ⟨c1, c2, c3⟩
        · exact Or.inl (by omega)
        · exact Or.inr ⟨by omega, by omega, a3⟩
  · rw [if_neg e]
    refine ⟨fun n ha hb hP => ?_, ?_⟩
    · by_cases c1 : n ≤ k1
      · have y1 := u1 n (by omega) c1 hP
        have z1 : t1 < v1 ∧ v1 ≤ k1 ∧ P v1 := by
          rcases w1 with z | z
          · omega
          · exact z
        by_cases c2 : n ≤ k2
        · have y2 := u2 n (by omega) c2 hP
          have z2 : t2 < v2 ∧ v2 ≤ k2 ∧ P v2 := by
            rcases w2 with z | z
            · omega
            · exact z
          have g1 : v1 ≤ k2 → v1 ≤ v2 := fun g => u2 v1 (by omega) g z1.2.2
          have g2 : v2 ≤ k1 → v2 ≤ v1 := fun g => u1 v2 (by omega) g z2.2.2
          have z1a := z1.1
          have z1b := z1.2.1
          have z2a := z2.1
          have z2b := z2.2.1
          clear z1 z2 u1 u2 w1 w2
          split <;> split <;> omega
        · clear z1 u1 u2 w1 w2
          split <;> split <;> omega
      · have y2 := u2 n (by omega) (by omega) hP
        clear u1 u2 w1 w2
        split <;> split <;> omega
    · by_cases c1 : k2 < v1
      · have z1 : t1 < v1 ∧ v1 ≤ k1 ∧ P v1 := by
          rcases w1 with z | z
          · omega
          · exact z
        obtain ⟨z1a, z1b, z1c⟩ := z1
        by_cases c2 : k1 < v2
        · rcases w2 with z | z
          · omega
          · have := z.2.1
            omega
        · rw [if_pos c1, if_neg c2, Nat.max_zero]
          exact Or.inr ⟨by omega, by omega, z1c⟩
      · by_cases c2 : k1 < v2
        · have z2 : t2 < v2 ∧ v2 ≤ k2 ∧ P v2 := by
            rcases w2 with z | z
            · omega
            · exact z
          obtain ⟨z2a, z2b, z2c⟩ := z2
          rw [if_neg c1, if_pos c2, Nat.zero_max]
          exact Or.inr ⟨by omega, by omega, z2c⟩
        · rw [if_neg c1, if_neg c2]
          exact Or.inl rfl
theorem qj_T_new {o n : Nat} (h : qj_T Q w K t) (ho : o < 3) (hn : n = K o + 1) (e : ∀ q, q < 3 → K' q = if q = o then n else K q) (hQ : Q o n) : qj_T Q w K' (max t (w o n)) := by
  refine ⟨fun q n' hq ha hb hQ' => ?_, ?_⟩
  · have hk := e q hq
    by_cases c : n' ≤ K q
    · have := h.1 q n' hq ha c hQ'
      omega
    · by_cases c2 : q = o
      · rw [if_pos c2] at hk
        have c3 : n' = n := by
          rw [c2] at c hk hb
          omega
        rw [c2, c3]
        omega
      · rw [if_neg c2] at hk
        omega
  · by_cases c : w o n ≤ t
    · rcases h.2 with z | ⟨q, n', hq, ha, hb, hQ', hw⟩
      · exact Or.inl (by omega)
      · refine Or.inr ⟨q, n', hq, ha, ?_, hQ', by omega⟩
        rw [e q hq]
        split
        · rename_i c2
          rw [c2] at hb
          omega
        · exact hb
    · refine Or.inr ⟨o, n, ho, by omega, ?_, hQ, by omega⟩
      rw [e o ho, if_pos rfl]
      omega
theorem qj_T_old {o n : Nat} (h : qj_T Q w K t) (hn : n = K o + 1) (e : ∀ q, q < 3 → K' q = if q = o then n else K q) (hQ : ¬ Q o n) : qj_T Q w K' t := by
  refine ⟨fun q n' hq ha hb hQ' => ?_, ?_⟩
  · have hk := e q hq
    by_cases c : n' ≤ K q
    · exact h.1 q n' hq ha c hQ'
    · by_cases c2 : q = o
      · rw [if_pos c2] at hk
        have c3 : n' = n := by
          rw [c2] at c hk hb
          omega
        rw [c2, c3] at hQ'
        exact absurd hQ' hQ
      · rw [if_neg c2] at hk
        omega
  · rcases h.2 with z | ⟨q, n', hq, ha, hb, hQ', hw⟩
    · exact Or.inl z
    · refine Or.inr ⟨q, n', hq, ha, ?_, hQ', hw⟩
      rw [e q hq]
      split
      · rename_i c2
        rw [c2] at hb
        omega
      · exact hb
theorem qj_F_add (ht : t ≤ k) (hP : P (k + 1)) : qj_F P (k + 1) t (k + 1) := ⟨fun n _ h _ => h, Or.inr ⟨by omega, by omega, hP⟩⟩
theorem qj_F_old (h : qj_F P k t v) (hP : ¬ P (k + 1)) : qj_F P (k + 1) t v := by
  refine ⟨fun n ha hb hp => ?_, ?_⟩
  · by_cases c : n = k + 1
    · rw [c] at hp
      exact absurd hp hP
    · exact h.1 n ha (by omega) hp
  · rcases h.2 with z | ⟨a, b, c⟩
    · exact Or.inl z
    · exact Or.inr ⟨a, by omega, c⟩
theorem qj_F_dr (h : qj_F P k t v) (s : Nat) : qj_F P k (max t s) (qj_dr v s) := by
  by_cases c : v ≤ s
  · rw [qj_dr0 c]
    refine ⟨fun n ha hb hp => ?_, Or.inl rfl⟩
    have := h.1 n (by omega) hb hp
    omega
  · rw [qj_drk (by omega)]
    refine ⟨fun n ha hb hp => h.1 n (by omega) hb hp, ?_⟩
    rcases h.2 with z | ⟨a, b, d⟩
    · exact Or.inl z
    · exact Or.inr ⟨by omega, b, d⟩
theorem qj_T_cg (h : qj_T Q w K t) (e : ∀ q n, q < 3 → 1 ≤ n → n ≤ K q → (Q' q n ↔ Q q n) ∧ w' q n = w q n) : qj_T Q' w' K t := by
  refine ⟨fun q n hq ha hb hQ => ?_, ?_⟩
  · obtain ⟨e1, e2⟩ := e q n hq ha hb
    rw [e2]
    exact h.1 q n hq ha hb (e1.mp hQ)
  · rcases h.2 with z | ⟨q, n, hq, ha, hb, hQ, hw⟩
    · exact Or.inl z
    · obtain ⟨e1, e2⟩ := e q n hq ha hb
      exact Or.inr ⟨q, n, hq, ha, hb, e1.mpr hQ, by rw [e2]; exact hw⟩
theorem qj_T_k (h : qj_T Q w K t) (e : ∀ q, q < 3 → K' q = K q) : qj_T Q w K' t := by
  refine ⟨fun q n hq ha hb hQ => ?_, ?_⟩
  · rw [e q hq] at hb
    exact h.1 q n hq ha hb hQ
  · rcases h.2 with z | ⟨q, n, hq, ha, hb, hQ, hw⟩
    · exact Or.inl z
    · exact Or.inr ⟨q, n, hq, ha, by rw [e q hq]; exact hb, hQ, hw⟩
theorem qj_F_cg (h : qj_F P k t v) (e : ∀ n, 1 ≤ n → n ≤ k → (P' n ↔ P n)) : qj_F P' k t v := by
  refine ⟨fun n ha hb hp => h.1 n ha hb ((e n (by omega) hb).mp hp), ?_⟩
  rcases h.2 with z | ⟨a, b, c⟩
  · exact Or.inl z
  · exact Or.inr ⟨a, b, (e v (by omega) b).mpr c⟩
/-- one more change, of origin o: threshold and last number of origin q -/
theorem qj_app1 {o q : Nat} {p z : Prop} [Decidable p] [Decidable z] (h : qj_T Q w K t) (f : qj_F P (K q) t v) (ho : o < 3) (hq : q < 3) (ht : t ≤ K q) (hw : w o (K o + 1) ≤ K q)
    (e : ∀ q, q < 3 → K' q = if q = o then K o + 1 else K q) (hP : q = o → (P (K o + 1) ↔ p)) (hQ : Q o (K o + 1) ↔ z)
    (hv : v' = if p ∧ q = o then K o + 1 else if z then qj_dr v (w o (K o + 1)) else v) : ∃ t', qj_T Q w K' t' ∧ qj_F P (K' q) t' v' := by
  have main : ∀ t' u, t' ≤ K q → qj_T Q w K' t' → qj_F P (K q) t' u → (v' = if p ∧ q = o then K o + 1 else u) → ∃ t', qj_T Q w K' t' ∧ qj_F P (K' q) t' v' := by
    intro t' u ht' hT hF hu
    refine ⟨t', hT, ?_⟩
    rw [e q hq]
    by_cases c : q = o
    · rw [if_pos c]
      by_cases c2 : p
      · rw [if_pos ⟨c2, c⟩] at hu
        rw [hu]
        rw [c] at ht'
        exact qj_F_add ht' ((hP c).mpr c2)
      · rw [if_neg (fun x => c2 x.1)] at hu
        rw [hu]
        rw [c] at hF
        exact qj_F_old hF (fun x => c2 ((hP c).mp x))
    · rw [if_neg c]
      rw [if_neg (fun x => c x.2)] at hu
      rw [hu]
      exact hF
  by_cases c : z
  · rw [if_pos c] at hv
    exact main _ _ (by omega) (qj_T_new h ho rfl e (hQ.mpr c)) (qj_F_dr f _) hv
  · rw [if_neg c] at hv
    exact main _ _ ht (qj_T_old h rfl e (fun x => c (hQ.mp x))) f hv
end
/-! the log's kinds of change, by origin and number -/
def qj_Qa (so ar : Nat → Int32) (ch : Nat → Nat) (e : Nat) : Nat → Nat → Prop := fun q n => (so (ch (49 * q + n)) = 1 ∧ ar (ch (49 * q + n)) = nI e) ∨ so (ch (49 * q + n)) = 4
def qj_Qs (so : Nat → Int32) (ch : Nat → Nat) : Nat → Nat → Prop := fun q n => so (ch (49 * q + n)) = 2 ∨ so (ch (49 * q + n)) = 4
def qj_Qr (so : Nat → Int32) (ch : Nat → Nat) : Nat → Nat → Prop := fun q n => so (ch (49 * q + n)) = 4
def qj_w (sn ch : Nat → Nat) (o : Nat) : Nat → Nat → Nat := fun q n => sn (3 * ch (49 * q + n) + o)
def qj_Pa (so ar : Nat → Int32) (ch : Nat → Nat) (e o : Nat) : Nat → Prop := fun n => so (ch (49 * o + n)) = 0 ∧ ar (ch (49 * o + n)) = nI e
def qj_Ps (so : Nat → Int32) (ch : Nat → Nat) (o : Nat) : Nat → Prop := fun n => so (ch (49 * o + n)) = 2
/-- one replica (its rows K knows, C covered, A last adds, B last assigns) is what the log says -/
def qj_R (so ar : Nat → Int32) (sn ch mb K C : Nat → Nat) (A : Nat → Nat → Nat) (B : Nat → Nat) : Prop :=
  (∀ q, q < 3 → K q ≤ mb q) ∧ (∀ q n o, q < 3 → 1 ≤ n → n ≤ K q → o < 3 → qj_w sn ch o q n ≤ K o) ∧
  (∀ o, o < 3 → qj_T (qj_Qr so ch) (qj_w sn ch o) K (C o)) ∧
  (∀ e o, e < 8 → o < 3 → ∃ t, qj_T (qj_Qa so ar ch e) (qj_w sn ch o) K t ∧ qj_F (qj_Pa so ar ch e o) (K o) t (A e o)) ∧
  (∀ o, o < 3 → ∃ t, qj_T (qj_Qs so ch) (qj_w sn ch o) K t ∧ qj_F (qj_Ps so ch o) (K o) t (B o))
section
variable {so ar so' ar' : Nat → Int32} {sn ch mb sn' ch' mb' K C K' C' K1 C1 K2 C2 : Nat → Nat} {A A' A1 A2 : Nat → Nat → Nat} {B B' B1 B2 : Nat → Nat}
theorem qj_R_uniq (h : qj_R so ar sn ch mb K C A B) (h' : qj_R so ar sn ch mb K' C' A' B') (e : ∀ q, q < 3 → K q = K' q) :
    (∀ o, o < 3 → C o = C' o) ∧ (∀ e o, e < 8 → o < 3 → A e o = A' e o) ∧ (∀ o, o < 3 → B o = B' o) := by
  obtain ⟨_, _, hC, hA, hB⟩ := h
  obtain ⟨_, _, hC', hA', hB'⟩ := h'
  refine ⟨fun o ho => qj_T_uniq (hC o ho) (hC' o ho) e, fun x o hx ho => ?_, fun o ho => ?_⟩
  · obtain ⟨t, h1, h2⟩ := hA x o hx ho
    obtain ⟨t', h1', h2'⟩ := hA' x o hx ho
    rw [← qj_T_uniq h1 h1' e, ← e o ho] at h2'
    exact qj_F_uniq h2 h2'
  · obtain ⟨t, h1, h2⟩ := hB o ho
    obtain ⟨t', h1', h2'⟩ := hB' o ho
    rw [← qj_T_uniq h1 h1' e, ← e o ho] at h2'
    exact qj_F_uniq h2 h2'
theorem qj_R_cg (h : qj_R so ar sn ch mb K C A B) (eK : ∀ q, q < 3 → K' q = K q) (eC : ∀ q, q < 3 → C' q = C q) (eA : ∀ e q, e < 8 → q < 3 → A' e q = A e q) (eB : ∀ q, q < 3 → B' q = B q) : qj_R so ar sn ch mb K' C' A' B' := by
  obtain ⟨h1, h2, hC, hA, hB⟩ := h
  refine ⟨fun q hq => by rw [eK q hq]; exact h1 q hq, fun q n o hq ha hb ho => ?_, fun o ho => ?_, fun e o he ho => ?_, fun o ho => ?_⟩
  · rw [eK q hq] at hb
    rw [eK o ho]
    exact h2 q n o hq ha hb ho
  · rw [eC o ho]
    exact qj_T_k (hC o ho) eK
  · obtain ⟨t, a, b⟩ := hA e o he ho
    rw [eA e o he ho, eK o ho]
    exact ⟨t, qj_T_k a eK, b⟩
  · obtain ⟨t, a, b⟩ := hB o ho
    rw [eB o ho, eK o ho]
    exact ⟨t, qj_T_k a eK, b⟩
theorem qj_R_join (h1 : qj_R so ar sn ch mb K1 C1 A1 B1) (h2 : qj_R so ar sn ch mb K2 C2 A2 B2) (eK : ∀ q, q < 3 → K q = max (K1 q) (K2 q)) (eC : ∀ q, q < 3 → C q = max (C1 q) (C2 q))
    (eA : ∀ e q, e < 8 → q < 3 → A e q = qj_sv (A1 e q) (K1 q) (A2 e q) (K2 q)) (eB : ∀ q, q < 3 → B q = qj_sv (B1 q) (K1 q) (B2 q) (K2 q)) : qj_R so ar sn ch mb K C A B := by
  obtain ⟨m1, c1, hC1, hA1, hB1⟩ := h1
  obtain ⟨m2, c2, hC2, hA2, hB2⟩ := h2
  refine ⟨fun q hq => ?_, fun q n o hq ha hb ho => ?_, fun o ho => ?_, fun e o he ho => ?_, fun o ho => ?_⟩
  · have := m1 q hq
    have := m2 q hq
    rw [eK q hq]
    omega
  · rw [eK q hq] at hb
    rw [eK o ho]
    by_cases c : n ≤ K1 q
    · have := c1 q n o hq ha c ho
      omega
    · have := c2 q n o hq ha (by omega) ho
      omega
  · rw [eC o ho]
    exact qj_T_join (hC1 o ho) (hC2 o ho) eK
  · obtain ⟨t1, a1, b1⟩ := hA1 e o he ho
    obtain ⟨t2, a2, b2⟩ := hA2 e o he ho
    rw [eA e o he ho, eK o ho]
    exact ⟨max t1 t2, qj_T_join a1 a2 eK, qj_F_join b1 b2 (qj_T_le a1 (fun q n x y z => c1 q n o x y z ho)) (qj_T_le a2 (fun q n x y z => c2 q n o x y z ho))⟩
  · obtain ⟨t1, a1, b1⟩ := hB1 o ho
    obtain ⟨t2, a2, b2⟩ := hB2 o ho
    rw [eB o ho, eK o ho]
    exact ⟨max t1 t2, qj_T_join a1 a2 eK, qj_F_join b1 b2 (qj_T_le a1 (fun q n x y z => c1 q n o x y z ho)) (qj_T_le a2 (fun q n x y z => c2 q n o x y z ho))⟩
theorem qj_R_log (h : qj_R so ar sn ch mb K C A B) (em : ∀ q, q < 3 → mb q ≤ mb' q)
    (e : ∀ q n, q < 3 → 1 ≤ n → n ≤ K q → ch' (49 * q + n) = ch (49 * q + n) ∧ so' (ch (49 * q + n)) = so (ch (49 * q + n)) ∧ ar' (ch (49 * q + n)) = ar (ch (49 * q + n)) ∧ ∀ o, o < 3 → sn' (3 * ch (49 * q + n) + o) = sn (3 * ch (49 * q + n) + o)) :
    qj_R so' ar' sn' ch' mb' K C A B := by
  obtain ⟨h1, h2, hC, hA, hB⟩ := h
  have ew : ∀ o, o < 3 → ∀ q n, q < 3 → 1 ≤ n → n ≤ K q → qj_w sn' ch' o q n = qj_w sn ch o q n := by
    intro o ho q n hq ha hb
    obtain ⟨e1, e2, e3, e4⟩ := e q n hq ha hb
    unfold qj_w
    rw [e1]
    exact e4 o ho
  refine ⟨fun q hq => Nat.le_trans (h1 q hq) (em q hq), fun q n o hq ha hb ho => ?_, fun o ho => ?_, fun x o hx ho => ?_, fun o ho => ?_⟩
  · rw [ew o ho q n hq ha hb]
    exact h2 q n o hq ha hb ho
  · refine qj_T_cg (hC o ho) (fun q n hq ha hb => ⟨?_, ew o ho q n hq ha hb⟩)
    obtain ⟨e1, e2, e3, e4⟩ := e q n hq ha hb
    unfold qj_Qr
    rw [e1, e2]
  · obtain ⟨t, a, b⟩ := hA x o hx ho
    refine ⟨t, qj_T_cg a (fun q n hq ha hb => ⟨?_, ew o ho q n hq ha hb⟩), qj_F_cg b (fun n ha hb => ?_)⟩
    · obtain ⟨e1, e2, e3, e4⟩ := e q n hq ha hb
      unfold qj_Qa
      rw [e1, e2, e3]
    · obtain ⟨e1, e2, e3, e4⟩ := e o n ho ha hb
      unfold qj_Pa
      rw [e1, e2, e3]
  · obtain ⟨t, a, b⟩ := hB o ho
    refine ⟨t, qj_T_cg a (fun q n hq ha hb => ⟨?_, ew o ho q n hq ha hb⟩), qj_F_cg b (fun n ha hb => ?_)⟩
    · obtain ⟨e1, e2, e3, e4⟩ := e q n hq ha hb
      unfold qj_Qs
      rw [e1, e2]
    · obtain ⟨e1, e2, e3, e4⟩ := e o n ho ha hb
      unfold qj_Ps
      rw [e1, e2]
theorem qj_R_app {o c : Nat} (h : qj_R so ar sn ch mb K C A B) (ho : o < 3) (hc : ch (49 * o + (K o + 1)) = c) (hm : K o + 1 ≤ mb o) (hs : ∀ q, q < 3 → sn (3 * c + q) ≤ K q)
    (eK : ∀ q, q < 3 → K' q = if q = o then K o + 1 else K q)
    (eC : ∀ q, q < 3 → C' q = if so c = 4 then max (C q) (sn (3 * c + q)) else C q)
    (eA : ∀ e q, e < 8 → q < 3 → A' e q = if (so c = 0 ∧ ar c = nI e) ∧ q = o then K o + 1 else if (so c = 1 ∧ ar c = nI e) ∨ so c = 4 then qj_dr (A e q) (sn (3 * c + q)) else A e q)
    (eB : ∀ q, q < 3 → B' q = if so c = 2 ∧ q = o then K o + 1 else if so c = 2 ∨ so c = 4 then qj_dr (B q) (sn (3 * c + q)) else B q) : qj_R so ar sn ch mb K' C' A' B' := by
  obtain ⟨h1, h2, hC, hA, hB⟩ := h
  have hw : ∀ q, qj_w sn ch q o (K o + 1) = sn (3 * c + q) := by
    intro q
    unfold qj_w
    rw [hc]
  have hKK : ∀ q, q < 3 → K q ≤ K' q := by
    intro q hq
    rw [eK q hq]
    split
    · rename_i z
      rw [z]
      omega
    · omega
  refine ⟨fun q hq => ?_, fun q n x hq ha hb hx => ?_, fun q hq => ?_, fun e q he hq => ?_, fun q hq => ?_⟩
  · rw [eK q hq]
    split
    · rename_i z
      rw [z]
      exact hm
    · exact h1 q hq
  · by_cases z : n ≤ K q
    · exact Nat.le_trans (h2 q n x hq ha z hx) (hKK x hx)
    · have hk := eK q hq
      by_cases z2 : q = o
      · rw [if_pos z2] at hk
        have z3 : n = K o + 1 := by
          rw [z2] at z hk hb
          omega
        rw [z2, z3, hw x]
        exact Nat.le_trans (hs x hx) (hKK x hx)
      · rw [if_neg z2] at hk
        omega
  · rw [eC q hq]
    by_cases z : so c = 4
    · rw [if_pos z, ← hw q]
      exact qj_T_new (hC q hq) ho rfl eK (by unfold qj_Qr; rw [hc]; exact z)
    · rw [if_neg z]
      exact qj_T_old (hC q hq) rfl eK (by unfold qj_Qr; rw [hc]; exact z)
  · obtain ⟨t, a, b⟩ := hA e q he hq
    refine qj_app1 (p := so c = 0 ∧ ar c = nI e) (z := (so c = 1 ∧ ar c = nI e) ∨ so c = 4) a b ho hq (qj_T_le a (fun q' n x y z => h2 q' n q x y z hq)) (by rw [hw q]; exact hs q hq) eK (fun x => ?_) ?_ (by rw [hw q]; exact eA e q he hq)
    · unfold qj_Pa
      rw [x, hc]
    · unfold qj_Qa
      rw [hc]
  · obtain ⟨t, a, b⟩ := hB q hq
    refine qj_app1 (p := so c = 2) (z := so c = 2 ∨ so c = 4) a b ho hq (qj_T_le a (fun q' n x y z => h2 q' n q x y z hq)) (by rw [hw q]; exact hs q hq) eK (fun x => ?_) ?_ (by rw [hw q]; exact eB q hq)
    · unfold qj_Ps
      rw [x, hc]
    · unfold qj_Qs
      rw [hc]
end
end
section
theorem qj_n10 : ¬ (1 : Int32) = 0 := by decide
theorem qj_rep {post : Int32 → Prop} {r : Nat} (hr : r < 3) (h : post 1) : wpX_isReplica post () (nI r) :=
  pk_lt r 0 (fun z => absurd z (by omega)) (fun _ => pk_lt 2 r (fun z => absurd z (by omega)) (fun _ => h))
theorem qj_s29 {post : Int32 → Prop} {a b : Nat} (ha : a ≤ 48) (hb : b ≤ 48) (h : post (nI (max a b))) : wX_survivor_29 post (nI a) (nI b) :=
  pk_le a b (fun z => by rw [Nat.max_eq_right z] at h; exact h) (fun z => by rw [Nat.max_eq_left (by omega)] at h; exact h)
theorem qj_s17 {post : Int32 → Prop} {ak a b : Nat} (hak : ak ≤ 48) (ha : a ≤ 48) (hb : b ≤ 48) (h : post (nI (max a (if ak < b then b else 0)))) : wX_survivor_17 post (nI ak) (nI b) (nI a) :=
  pk_le b ak (fun z => by rw [if_neg (by omega)] at h; exact qj_s29 (b := 0) ha (by omega) h) (fun z => by rw [if_pos z] at h; exact qj_s29 ha hb h)
theorem qj_surv {post : Int32 → Prop} {a ak b bk : Nat} (ha : a ≤ 48) (hak : ak ≤ 48) (hb : b ≤ 48) (hbk : bk ≤ 48) (h : post (nI (qj_sv a ak b bk))) : wpX_survivor post () (nI a) (nI ak) (nI b) (nI bk) := by
  unfold qj_sv at h
  refine pk_eq a b (fun e => ?_) (fun e => ?_)
  · rw [if_pos e] at h
    exact h
  · rw [if_neg e] at h
    refine pk_le a bk (fun z => ?_) (fun z => ?_)
    · rw [if_neg (show ¬ bk < a by omega)] at h
      exact qj_s17 (a := 0) hak (by omega) hb h
    · rw [if_pos z] at h
      exact qj_s17 hak ha hb h
section
variable {m : Nat} {so ar : Nat → Int32} {sn mb ch : Nat → Nat} {am : Nat → Int32} {kn cv la ls : Nat → Nat}
/-- what the join leaves at place q of the adds' row of t -/
def qj_gA (kn la : Nat → Nat) (f t : Nat) : Nat → Nat := fun q => qj_sv (la (24 * t + q)) (kn (3 * t + q % 3)) (la (24 * f + q)) (kn (3 * f + q % 3))
def qj_gB (kn ls : Nat → Nat) (f t : Nat) : Nat → Nat := fun q => qj_sv (ls (3 * t + q)) (kn (3 * t + q)) (ls (3 * f + q)) (kn (3 * f + q))
def qj_gM (kn : Nat → Nat) (f t : Nat) : Nat → Nat := fun q => max (kn (3 * f + q)) (kn (3 * t + q))
theorem qj_jA_in {post : St1 → Prop} {J2 : Int32 → (Nat → Int32) → (Nat → Int32) → (Nat → Int32) → (Nat → Int32) → (Nat → Int32) → (Nat → Int32) → (Nat → Int32) → (Nat → Int32) → (Nat → Int32) → (Nat → Int32) → Prop} {f t e : Nat} {s : Nat → Nat} (hf : f < 3) (ht : t < 3) (hft : f ≠ t) (he : e < 8) (bk : ∀ k, kn k ≤ 48) (bl : ∀ k, la k ≤ 48)
    (hs : qj_Fill (24 * t) (qj_gA kn la f t) la (3 * e) s)
    (H : ∀ s', qj_Fill (24 * t) (qj_gA kn la f t) la (3 * e + 3) s' → J2 (nI (e + 1)) so ar (qj_v sn) (qj_v mb) (qj_v ch) am (qj_v kn) (qj_v cv) (qj_v s') (qj_v ls)) :
    ∃ n, wX_joinAdds_11 post J2 (nI f) (nI t) (nI e) (nI m) n 0 so ar (qj_v sn) (qj_v mb) (qj_v ch) am (qj_v kn) (qj_v cv) (qj_v s) (qj_v ls) := by
  refine pk_loop (fun n i s => wX_joinAdds_11 post J2 (nI f) (nI t) (nI e) (nI m) n (nI i) so ar (qj_v sn) (qj_v mb) (qj_v ch) am (qj_v kn) (qj_v cv) (qj_v s) (qj_v ls)) (fun i s => qj_Fill (24 * t) (qj_gA kn la f t) la (3 * e + i) s) 3 0 s (by omega) hs ?_ ?_
  · exact fun n s h => pk_le 3 3 (fun _ => nm_r (nI_1 e) (H s h)) (fun z => absurd z (by omega))
  · intro n i s hi h hw
    refine pk_le 3 i (fun z => absurd z (by omega)) (fun _ => ?_)
    rw [qj_i24, qj_i24, qj_i3, qj_i3, nI_clamp (show 24 * t + 3 * e + i < 2 ^ 31 by omega), nI_clamp (show 24 * f + 3 * e + i < 2 ^ 31 by omega), nI_clamp (show 3 * t + i < 2 ^ 31 by omega), nI_clamp (show 3 * f + i < 2 ^ 31 by omega)]
    have e1 : s (24 * t + 3 * e + i) = la (24 * t + (3 * e + i)) := by
      rw [Nat.add_assoc]
      exact qj_Fa h
    have e2 : s (24 * f + 3 * e + i) = la (24 * f + (3 * e + i)) := by
      rw [Nat.add_assoc]
      exact qj_Fo h (by omega)
    have e3 : (3 * e + i) % 3 = i := by omega
    refine ⟨vp_in_nI (by omega) (by omega), nm_e ⟨vp_in_nI (by omega) (by omega), nm_e ⟨vp_in_nI (by omega) (by omega), vp_in_nI (by omega) (by omega), ?_⟩⟩⟩
    refine qj_surv (a := s (24 * t + 3 * e + i)) (ak := kn (3 * t + i)) (b := s (24 * f + 3 * e + i)) (bk := kn (3 * f + i)) (by rw [e1]; exact bl _) (bk _) (by rw [e2]; exact bl _) (bk _) ⟨vp_in_nI (by omega) (by omega), nm_r (qj_upd _ _ _) (nm_r (nI_1 i) (hw _ (qj_Fs h (by omega) ?_)))⟩
    unfold qj_gA
    rw [e1, e2, e3]
theorem qj_jA {post : St1 → Prop} {f t : Nat} (hf : f < 3) (ht : t < 3) (hft : f ≠ t) (bk : ∀ k, kn k ≤ 48) (bl : ∀ k, la k ≤ 48)
    (H : ∀ la', qj_Fill (24 * t) (qj_gA kn la f t) la 24 la' → post (qj_S m so ar sn mb ch am kn cv la' ls)) : wpX_joinAdds post (qj_S m so ar sn mb ch am kn cv la ls) (nI f) (nI t) := by
  refine pk_loop (fun n e s => wX_joinAdds_2 post (nI f) (nI t) (nI m) n (nI e) so ar (qj_v sn) (qj_v mb) (qj_v ch) am (qj_v kn) (qj_v cv) (qj_v s) (qj_v ls)) (fun e s => qj_Fill (24 * t) (qj_gA kn la f t) la (3 * e) s) 8 0 la (by omega) (qj_F0 _ _ _) ?_ ?_
  · exact fun n s h => pk_le 8 8 (fun _ => H s h) (fun z => absurd z (by omega))
  · intro n e s he h hw
    refine pk_le 8 e (fun z => absurd z (by omega)) (fun _ => ?_)
    refine qj_jA_in hf ht hft he bk bl h (fun s' h' => hw s' ?_)
    rw [show 3 * (e + 1) = 3 * e + 3 by omega]
    exact h'
theorem qj_jB {post : St1 → Prop} {f t : Nat} (hf : f < 3) (ht : t < 3) (hft : f ≠ t) (bk : ∀ k, kn k ≤ 48) (bl : ∀ k, ls k ≤ 48)
    (H : ∀ ls', qj_Fill (3 * t) (qj_gB kn ls f t) ls 3 ls' → post (qj_S m so ar sn mb ch am kn cv la ls')) : wpX_joinAssigns post (qj_S m so ar sn mb ch am kn cv la ls) (nI f) (nI t) := by
  refine pk_loop (fun n i s => wX_joinAssigns_2 post (nI f) (nI t) (nI m) n (nI i) so ar (qj_v sn) (qj_v mb) (qj_v ch) am (qj_v kn) (qj_v cv) (qj_v la) (qj_v s)) (fun i s => qj_Fill (3 * t) (qj_gB kn ls f t) ls i s) 3 0 ls (by omega) (qj_F0 _ _ _) ?_ ?_
  · exact fun n s h => pk_le 3 3 (fun _ => H s h) (fun z => absurd z (by omega))
  · intro n i s hi h hw
    refine pk_le 3 i (fun z => absurd z (by omega)) (fun _ => ?_)
    rw [qj_i3, qj_i3, nI_clamp (show 3 * t + i < 2 ^ 31 by omega), nI_clamp (show 3 * f + i < 2 ^ 31 by omega)]
    have e1 : s (3 * t + i) = ls (3 * t + i) := qj_Fa h
    have e2 : s (3 * f + i) = ls (3 * f + i) := qj_Fo h (by omega)
    refine ⟨vp_in_nI (by omega) (by omega), nm_e ⟨vp_in_nI (by omega) (by omega), nm_e ⟨vp_in_nI (by omega) (by omega), vp_in_nI (by omega) (by omega), ?_⟩⟩⟩
    refine qj_surv (a := s (3 * t + i)) (ak := kn (3 * t + i)) (b := s (3 * f + i)) (bk := kn (3 * f + i)) (by rw [e1]; exact bl _) (bk _) (by rw [e2]; exact bl _) (bk _) ⟨vp_in_nI (by omega) (by omega), nm_r (qj_upd _ _ _) (nm_r (nI_1 i) (hw _ (qj_Fs h rfl ?_)))⟩
    unfold qj_gB
    rw [e1, e2]
theorem qj_j61 {post : St1 → Prop} {J2 : Int32 → (Nat → Int32) → (Nat → Int32) → (Nat → Int32) → (Nat → Int32) → (Nat → Int32) → (Nat → Int32) → (Nat → Int32) → (Nat → Int32) → (Nat → Int32) → (Nat → Int32) → Prop} {x1 x2 : Int32} {i c d z : Nat} (hc : c < 9) (hd : d < 9) (bc : ∀ k, cv k ≤ 48)
    (H : J2 (nI (i + 1)) so ar (qj_v sn) (qj_v mb) (qj_v ch) am (qj_v (qj_u kn d z)) (qj_v (qj_u cv d (max (cv c) (cv d)))) (qj_v la) (qj_v ls)) :
    wX_joinVectors_61 post J2 x1 x2 (nI i) (nI c) (nI d) (nI z) (nI d) (nI m) so ar (qj_v sn) (qj_v mb) (qj_v ch) am (qj_v kn) (qj_v cv) (qj_v la) (qj_v ls) := by
  unfold wX_joinVectors_61
  rw [nI_clamp (show c < 2 ^ 31 by omega), nI_clamp (show d < 2 ^ 31 by omega)]
  have b1 := bc c
  have b2 := bc d
  refine ⟨vp_in_nI hd (by omega), nm_r (qj_upd _ _ _) ⟨vp_in_nI hc (by omega), vp_in_nI hd (by omega), pk_le (cv c) (cv d) (fun h => ⟨vp_in_nI hd (by omega), vp_in_nI hd (by omega), nm_r (qj_upd _ _ (cv d)) (nm_r (nI_1 i) ?_)⟩) (fun h => ⟨vp_in_nI hc (by omega), vp_in_nI hd (by omega), nm_r (qj_upd _ _ (cv c)) (nm_r (nI_1 i) ?_)⟩)⟩⟩
  · rw [Nat.max_eq_right h] at H
    exact H
  · rw [Nat.max_eq_left (by omega)] at H
    exact H
theorem qj_jV {post : St1 → Prop} {f t : Nat} (hf : f < 3) (ht : t < 3) (hft : f ≠ t) (bk : ∀ k, kn k ≤ 48) (bc : ∀ k, cv k ≤ 48)
    (H : ∀ kn' cv', qj_Fill (3 * t) (qj_gM kn f t) kn 3 kn' → qj_Fill (3 * t) (qj_gM cv f t) cv 3 cv' → post (qj_S m so ar sn mb ch am kn' cv' la ls)) : wpX_joinVectors post (qj_S m so ar sn mb ch am kn cv la ls) (nI f) (nI t) := by
  refine pk_loop (fun n i (s : (Nat → Nat) × (Nat → Nat)) => wX_joinVectors_2 post (nI f) (nI t) (nI m) n (nI i) so ar (qj_v sn) (qj_v mb) (qj_v ch) am (qj_v s.1) (qj_v s.2) (qj_v la) (qj_v ls)) (fun i s => qj_Fill (3 * t) (qj_gM kn f t) kn i s.1 ∧ qj_Fill (3 * t) (qj_gM cv f t) cv i s.2) 3 0 (kn, cv) (by omega) ⟨qj_F0 _ _ _, qj_F0 _ _ _⟩ ?_ ?_
  · exact fun n s h => pk_le 3 3 (fun _ => H s.1 s.2 h.1 h.2) (fun z => absurd z (by omega))
  · intro n i s hi h hw
    obtain ⟨h1, h2⟩ := h
    refine pk_le 3 i (fun z => absurd z (by omega)) (fun _ => nm_r (qj_i3 f i) (nm_r (qj_i3 t i) ?_))
    rw [nI_clamp (show 3 * t + i < 2 ^ 31 by omega), nI_clamp (show 3 * f + i < 2 ^ 31 by omega)]
    have e1 : s.1 (3 * t + i) = kn (3 * t + i) := qj_Fa h1
    have e2 : s.1 (3 * f + i) = kn (3 * f + i) := qj_Fo h1 (by omega)
    have e3 : s.2 (3 * t + i) = cv (3 * t + i) := qj_Fa h2
    have e4 : s.2 (3 * f + i) = cv (3 * f + i) := qj_Fo h2 (by omega)
    have b1 := bk (3 * t + i)
    have b2 := bk (3 * f + i)
    have bs : ∀ k, s.2 k ≤ 48 := by
      refine qj_Fle h2 (fun q hq => ?_) bc
      have := bc (3 * f + q)
      have := bc (3 * t + q)
      unfold qj_gM
      omega
    have h2' : qj_Fill (3 * t) (qj_gM cv f t) cv (i + 1) (qj_u s.2 (3 * t + i) (max (s.2 (3 * f + i)) (s.2 (3 * t + i)))) := qj_Fs h2 rfl (by unfold qj_gM; rw [e3, e4])
    refine ⟨vp_in_nI (by omega) (by omega), vp_in_nI (by omega) (by omega), pk_le (s.1 (3 * f + i)) (s.1 (3 * t + i)) (fun z => ⟨vp_in_nI (by omega) (by omega), qj_j61 (c := 3 * f + i) (d := 3 * t + i) (z := s.1 (3 * t + i)) (by omega) (by omega) bs (hw (_, _) ⟨qj_Fs h1 rfl ?_, h2'⟩)⟩) (fun z => ⟨vp_in_nI (by omega) (by omega), qj_j61 (c := 3 * f + i) (d := 3 * t + i) (z := s.1 (3 * f + i)) (by omega) (by omega) bs (hw (_, _) ⟨qj_Fs h1 rfl ?_, h2'⟩)⟩) (by rfl) (by rfl) (by omega) (by omega)⟩
    · unfold qj_gM
      omega
    · unfold qj_gM
      omega
/-- what a sync leaves of the four arrays of replicas -/
def qj_SY (kn cv la ls : Nat → Nat) (f t : Nat) (kn' cv' la' ls' : Nat → Nat) : Prop :=
  qj_Fill (3 * t) (qj_gM kn f t) kn 3 kn' ∧ qj_Fill (3 * t) (qj_gM cv f t) cv 3 cv' ∧ qj_Fill (24 * t) (qj_gA kn la f t) la 24 la' ∧ qj_Fill (3 * t) (qj_gB kn ls f t) ls 3 ls'
theorem qj_sync {post : Int32 → St1 → Prop} {f t : Nat} (hf : f < 3) (ht : t < 3) (bk : ∀ k, kn k ≤ 48) (bc : ∀ k, cv k ≤ 48) (bl : ∀ k, la k ≤ 48) (bs : ∀ k, ls k ≤ 48)
    (H0 : f = t → post 0 (qj_S m so ar sn mb ch am kn cv la ls))
    (H : f ≠ t → ∀ kn' cv' la' ls', qj_SY kn cv la ls f t kn' cv' la' ls' → post 0 (qj_S m so ar sn mb ch am kn' cv' la' ls')) : wpX_sync post (qj_S m so ar sn mb ch am kn cv la ls) (nI f) (nI t) := by
  unfold wpX_sync
  dsimp only
  refine qj_rep hf (br_f qj_n10 (qj_rep ht (br_f qj_n10 (pk_eq f t (fun e => H0 e) (fun e => ?_)))))
  exact qj_jA hf ht e bk bl (fun la' h1 => qj_jB hf ht e bk bs (fun ls' h2 => qj_jV hf ht e bk bc (fun kn' cv' h3 h4 => H e kn' cv' la' ls' ⟨h3, h4, h1, h2⟩)))
end
end
section
section
variable {m : Nat} {so ar : Nat → Int32} {sn mb ch : Nat → Nat} {am : Nat → Int32} {kn cv la ls : Nat → Nat}
theorem qj_dropAdds {post : St1 → Prop} {r e c : Nat} (hr : r < 3) (he : e < 8) (hc : c < 48) (bs : ∀ k, sn k ≤ 48) (bl : ∀ k, la k ≤ 48)
    (H : ∀ la', qj_Fill (24 * r + 3 * e) (fun i => qj_dr (la (24 * r + 3 * e + i)) (sn (3 * c + i))) la 3 la' → post (qj_S m so ar sn mb ch am kn cv la' ls)) : wpX_dropAdds post (qj_S m so ar sn mb ch am kn cv la ls) (nI r) (nI e) (nI c) := by
  refine pk_loop (fun n i s => wX_dropAdds_3 post (nI r) (nI e) (nI c) (nI m) n (nI i) so ar (qj_v sn) (qj_v mb) (qj_v ch) am (qj_v kn) (qj_v cv) (qj_v s) (qj_v ls)) (fun i s => qj_Fill (24 * r + 3 * e) (fun i => qj_dr (la (24 * r + 3 * e + i)) (sn (3 * c + i))) la i s) 3 0 la (by omega) (qj_F0 _ _ _) ?_ ?_
  · exact fun n s h => pk_le 3 3 (fun _ => H s h) (fun z => absurd z (by omega))
  · intro n i s hi h hw
    refine pk_le 3 i (fun z => absurd z (by omega)) (fun _ => nm_r (qj_i24 r e i) ?_)
    rw [qj_i3, nI_clamp (show 3 * c + i < 2 ^ 31 by omega), nI_clamp (show 24 * r + 3 * e + i < 2 ^ 31 by omega)]
    have e1 : s (24 * r + 3 * e + i) = la (24 * r + 3 * e + i) := qj_Fa h
    have b1 := bs (3 * c + i)
    have b2 := bl (24 * r + 3 * e + i)
    refine ⟨vp_in_nI (by omega) (by omega), vp_in_nI (by omega) (by omega), pk_lt (sn (3 * c + i)) (s (24 * r + 3 * e + i)) (fun z => nm_r (nI_1 i) (hw s (qj_Fk h ?_))) (fun z => ⟨vp_in_nI (by omega) (by omega), nm_r (qj_upd s (24 * r + 3 * e + i) 0) (nm_r (nI_1 i) (hw _ (qj_Fs h rfl ?_)))⟩)⟩
    · exact qj_drk (by omega)
    · exact (qj_dr0 (by omega)).symm
theorem qj_dropAssigns {post : St1 → Prop} {r c : Nat} (hr : r < 3) (hc : c < 48) (bs : ∀ k, sn k ≤ 48) (bl : ∀ k, ls k ≤ 48)
    (H : ∀ ls', qj_Fill (3 * r) (fun i => qj_dr (ls (3 * r + i)) (sn (3 * c + i))) ls 3 ls' → post (qj_S m so ar sn mb ch am kn cv la ls')) : wpX_dropAssigns post (qj_S m so ar sn mb ch am kn cv la ls) (nI r) (nI c) := by
  refine pk_loop (fun n i s => wX_dropAssigns_2 post (nI r) (nI c) (nI m) n (nI i) so ar (qj_v sn) (qj_v mb) (qj_v ch) am (qj_v kn) (qj_v cv) (qj_v la) (qj_v s)) (fun i s => qj_Fill (3 * r) (fun i => qj_dr (ls (3 * r + i)) (sn (3 * c + i))) ls i s) 3 0 ls (by omega) (qj_F0 _ _ _) ?_ ?_
  · exact fun n s h => pk_le 3 3 (fun _ => H s h) (fun z => absurd z (by omega))
  · intro n i s hi h hw
    refine pk_le 3 i (fun z => absurd z (by omega)) (fun _ => nm_r (qj_i3 r i) ?_)
    rw [qj_i3, nI_clamp (show 3 * c + i < 2 ^ 31 by omega), nI_clamp (show 3 * r + i < 2 ^ 31 by omega)]
    have e1 : s (3 * r + i) = ls (3 * r + i) := qj_Fa h
    have b1 := bs (3 * c + i)
    have b2 := bl (3 * r + i)
    refine ⟨vp_in_nI (by omega) (by omega), vp_in_nI (by omega) (by omega), pk_lt (sn (3 * c + i)) (s (3 * r + i)) (fun z => nm_r (nI_1 i) (hw s (qj_Fk h ?_))) (fun z => ⟨vp_in_nI (by omega) (by omega), nm_r (qj_upd s (3 * r + i) 0) (nm_r (nI_1 i) (hw _ (qj_Fs h rfl ?_)))⟩)⟩
    · exact qj_drk (by omega)
    · exact (qj_dr0 (by omega)).symm
theorem qj_cover {post : St1 → Prop} {r c : Nat} (hr : r < 3) (hc : c < 48) (bs : ∀ k, sn k ≤ 48) (bl : ∀ k, cv k ≤ 48)
    (H : ∀ cv', qj_Fill (3 * r) (fun i => max (cv (3 * r + i)) (sn (3 * c + i))) cv 3 cv' → post (qj_S m so ar sn mb ch am kn cv' la ls)) : wpX_cover post (qj_S m so ar sn mb ch am kn cv la ls) (nI r) (nI c) := by
  refine pk_loop (fun n i s => wX_cover_2 post (nI r) (nI c) (nI m) n (nI i) so ar (qj_v sn) (qj_v mb) (qj_v ch) am (qj_v kn) (qj_v s) (qj_v la) (qj_v ls)) (fun i s => qj_Fill (3 * r) (fun i => max (cv (3 * r + i)) (sn (3 * c + i))) cv i s) 3 0 cv (by omega) (qj_F0 _ _ _) ?_ ?_
  · exact fun n s h => pk_le 3 3 (fun _ => H s h) (fun z => absurd z (by omega))
  · intro n i s hi h hw
    refine pk_le 3 i (fun z => absurd z (by omega)) (fun _ => nm_r (qj_i3 r i) ?_)
    rw [qj_i3, nI_clamp (show 3 * c + i < 2 ^ 31 by omega), nI_clamp (show 3 * r + i < 2 ^ 31 by omega)]
    have e1 : s (3 * r + i) = cv (3 * r + i) := qj_Fa h
    have b1 := bs (3 * c + i)
    have b2 := bl (3 * r + i)
    refine ⟨vp_in_nI (by omega) (by omega), vp_in_nI (by omega) (by omega), pk_le (sn (3 * c + i)) (s (3 * r + i)) (fun z => nm_r (nI_1 i) (hw s (qj_Fk h ?_))) (fun z => ⟨vp_in_nI (by omega) (by omega), vp_in_nI (by omega) (by omega), nm_r (qj_upd s (3 * r + i) (sn (3 * c + i))) (nm_r (nI_1 i) (hw _ (qj_Fs h rfl ?_)))⟩)⟩
    · show max (cv (3 * r + i)) (sn (3 * c + i)) = cv (3 * r + i)
      omega
    · show sn (3 * c + i) = max (cv (3 * r + i)) (sn (3 * c + i))
      omega
/-! what a change leaves of a replica's rows -/
def qj_gC (so : Nat → Int32) (sn cv : Nat → Nat) (r c : Nat) : Nat → Nat := fun q => if so c = 4 then max (cv (3 * r + q)) (sn (3 * c + q)) else cv (3 * r + q)
def qj_gD (so ar : Nat → Int32) (sn la : Nat → Nat) (r c o n : Nat) : Nat → Nat := fun k => if (so c = 0 ∧ ar c = nI (k / 3)) ∧ k % 3 = o then n else if (so c = 1 ∧ ar c = nI (k / 3)) ∨ so c = 4 then qj_dr (la (24 * r + k)) (sn (3 * c + k % 3)) else la (24 * r + k)
def qj_gE (so : Nat → Int32) (sn ls : Nat → Nat) (r c o n : Nat) : Nat → Nat := fun q => if so c = 2 ∧ q = o then n else if so c = 2 ∨ so c = 4 then qj_dr (ls (3 * r + q)) (sn (3 * c + q)) else ls (3 * r + q)
def qj_AP (so ar : Nat → Int32) (sn kn cv la ls : Nat → Nat) (r c o n : Nat) (kn' cv' la' ls' : Nat → Nat) : Prop :=
  kn' = qj_u kn (3 * r + o) n ∧ qj_Fill (3 * r) (qj_gC so sn cv r c) cv 3 cv' ∧ qj_Fill (24 * r) (qj_gD so ar sn la r c o n) la 24 la' ∧ qj_Fill (3 * r) (qj_gE so sn ls r c o n) ls 3 ls'
theorem qj_C_id {r c : Nat} (h : ¬ so c = 4) : qj_Fill (3 * r) (qj_gC so sn cv r c) cv 3 cv := qj_Fid (fun q _ => if_neg h)
theorem qj_D_id {r c o n : Nat} (h0 : ¬ so c = 0) (h1 : ¬ so c = 1) (h4 : ¬ so c = 4) : qj_Fill (24 * r) (qj_gD so ar sn la r c o n) la 24 la := by
  refine qj_Fid (fun q _ => ?_)
  unfold qj_gD
  rw [if_neg (fun x => h0 x.1.1), if_neg (fun x => x.elim (fun y => h1 y.1) h4)]
theorem qj_E_id {r c o n : Nat} (h2 : ¬ so c = 2) (h4 : ¬ so c = 4) : qj_Fill (3 * r) (qj_gE so sn ls r c o n) ls 3 ls := by
  refine qj_Fid (fun q _ => ?_)
  unfold qj_gE
  rw [if_neg (fun x => h2 x.1), if_neg (fun x => x.elim h2 h4)]
theorem qj_D_0 {r c o n e : Nat} (ho : o < 3) (he : e < 8) (h0 : so c = 0) (ha : ar c = nI e) : qj_Fill (24 * r) (qj_gD so ar sn la r c o n) la 24 (qj_u la (24 * r + 3 * e + o) n) := by
  refine ⟨fun k hk => ?_, fun k hk => qj_un (by omega)⟩
  unfold qj_gD
  have hB : ¬ ((so c = 1 ∧ ar c = nI (k / 3)) ∨ so c = 4) := by
    rw [h0]
    intro x
    rcases x with x | x
    · exact absurd x.1 (by decide)
    · exact absurd x (by decide)
  by_cases z : k = 3 * e + o
  · rw [show 24 * r + k = 24 * r + 3 * e + o by omega, qj_us, if_pos ⟨⟨h0, by rw [ha, show k / 3 = e by omega]⟩, by omega⟩]
  · have hA : ¬ ((so c = 0 ∧ ar c = nI (k / 3)) ∧ k % 3 = o) := by
      intro x
      have y := x.1.2
      have y2 := x.2
      rw [ha] at y
      have y3 := (nI_eq (by omega) (by omega)).mp y
      omega
    rw [qj_un (by omega), if_neg hA, if_neg hB]
theorem qj_D_1 {r c o n e : Nat} {s : Nat → Nat} (he : e < 8) (h1 : so c = 1) (ha : ar c = nI e) (h : qj_Fill (24 * r + 3 * e) (fun i => qj_dr (la (24 * r + 3 * e + i)) (sn (3 * c + i))) la 3 s) : qj_Fill (24 * r) (qj_gD so ar sn la r c o n) la 24 s := by
  refine ⟨fun k hk => ?_, fun k hk => h.2 k (by omega)⟩
  unfold qj_gD
  have hA : ¬ ((so c = 0 ∧ ar c = nI (k / 3)) ∧ k % 3 = o) := by
    rw [h1]
    intro x
    exact absurd x.1.1 (by decide)
  rw [if_neg hA]
  by_cases z : 3 * e ≤ k ∧ k < 3 * e + 3
  · have hB : (so c = 1 ∧ ar c = nI (k / 3)) ∨ so c = 4 := Or.inl ⟨h1, by rw [ha, show k / 3 = e by omega]⟩
    rw [if_pos hB]
    have y := h.1 (k - 3 * e) (by omega)
    dsimp only at y
    rw [show 24 * r + 3 * e + (k - 3 * e) = 24 * r + k by omega] at y
    rw [y, show k % 3 = k - 3 * e by omega]
  · have hB : ¬ ((so c = 1 ∧ ar c = nI (k / 3)) ∨ so c = 4) := by
      intro x
      rcases x with x | x
      · have y := x.2
        rw [ha] at y
        have y3 := (nI_eq (by omega) (by omega)).mp y
        omega
      · rw [h1] at x
        exact absurd x (by decide)
    rw [if_neg hB]
    exact h.2 _ (by omega)
theorem qj_E_2 {r c o n : Nat} {s : Nat → Nat} (ho : o < 3) (h2 : so c = 2) (h : qj_Fill (3 * r) (fun i => qj_dr (ls (3 * r + i)) (sn (3 * c + i))) ls 3 s) : qj_Fill (3 * r) (qj_gE so sn ls r c o n) ls 3 (qj_u s (3 * r + o) n) := by
  refine ⟨fun k hk => ?_, fun k hk => ?_⟩
  · unfold qj_gE
    by_cases z : k = o
    · rw [z, qj_us, if_pos ⟨h2, rfl⟩]
    · rw [qj_un (by omega), if_neg (fun x => z x.2), if_pos (Or.inl h2)]
      exact h.1 k hk
  · rw [qj_un (by omega)]
    exact h.2 k hk
theorem qj_128 {post : St1 → Prop} {r o n : Nat} (hr : r < 3) (ho : o < 3) (H : post (qj_S m so ar sn mb ch am (qj_u kn (3 * r + o) n) cv la ls)) :
    wX_apply_128 post (nI r) (nI o) (nI n) (nI m) so ar (qj_v sn) (qj_v mb) (qj_v ch) am (qj_v kn) (qj_v cv) (qj_v la) (qj_v ls) := by
  unfold wX_apply_128
  rw [qj_i3, nI_clamp (show 3 * r + o < 2 ^ 31 by omega)]
  exact ⟨vp_in_nI (by omega) (by omega), nm_r (qj_upd _ _ _) H⟩
theorem qj_95 {post : St1 → Prop} {r c o n : Nat} (hr : r < 3) (hc : c < 48) (ho : o < 3) (bs : ∀ k, sn k ≤ 48) (bc : ∀ k, cv k ≤ 48) (bl : ∀ k, la k ≤ 48) (bt : ∀ k, ls k ≤ 48)
    (H : ∀ cv' la' ls', qj_Fill (3 * r) (fun i => max (cv (3 * r + i)) (sn (3 * c + i))) cv 3 cv' → qj_Fill (24 * r) (fun k => qj_dr (la (24 * r + k)) (sn (3 * c + k % 3))) la 24 la' → qj_Fill (3 * r) (fun i => qj_dr (ls (3 * r + i)) (sn (3 * c + i))) ls 3 ls' → post (qj_S m so ar sn mb ch am (qj_u kn (3 * r + o) n) cv' la' ls')) :
    ∃ fu, wX_apply_95 post (nI r) (nI c) (nI o) (nI n) fu 0 (nI m) so ar (qj_v sn) (qj_v mb) (qj_v ch) am (qj_v kn) (qj_v cv) (qj_v la) (qj_v ls) := by
  refine pk_loop (fun fu i s => wX_apply_95 post (nI r) (nI c) (nI o) (nI n) fu (nI i) (nI m) so ar (qj_v sn) (qj_v mb) (qj_v ch) am (qj_v kn) (qj_v cv) (qj_v s) (qj_v ls)) (fun i s => qj_Fill (24 * r) (fun k => qj_dr (la (24 * r + k)) (sn (3 * c + k % 3))) la (3 * i) s) 8 0 la (by omega) (qj_F0 _ _ _) ?_ ?_
  · exact fun fu s h => pk_le 8 8 (fun _ => qj_dropAssigns hr hc bs bt (fun ls' h2 => qj_cover hr hc bs bc (fun cv' h3 => qj_128 hr ho (H cv' s ls' h3 h h2)))) (fun z => absurd z (by omega))
  · intro fu i s hi h hw
    have bl' : ∀ k, s k ≤ 48 := qj_Fle h (fun q _ => qj_drle (bl _)) bl
    refine pk_le 8 i (fun z => absurd z (by omega)) (fun _ => qj_dropAdds hr hi hc bs bl' (fun s' h' => nm_r (nI_1 i) (hw s' ?_)))
    rw [show 3 * (i + 1) = 3 * i + 3 by omega]
    refine qj_Fc h h' (fun j hj => ?_)
    show qj_dr (s (24 * r + 3 * i + j)) (sn (3 * c + j)) = qj_dr (la (24 * r + (3 * i + j))) (sn (3 * c + (3 * i + j) % 3))
    rw [qj_Fo h (by omega), show (3 * i + j) % 3 = j by omega, Nat.add_assoc]
theorem qj_apply {post : St1 → Prop} {r c o n : Nat} (hr : r < 3) (hc : c < 48) (ho : o < 3) (bs : ∀ k, sn k ≤ 48) (bc : ∀ k, cv k ≤ 48) (bl : ∀ k, la k ≤ 48) (bt : ∀ k, ls k ≤ 48)
    (ha : so c = 0 ∨ so c = 1 → ∃ e, e < 8 ∧ ar c = nI e)
    (H : ∀ kn' cv' la' ls', qj_AP so ar sn kn cv la ls r c o n kn' cv' la' ls' → post (qj_S m so ar sn mb ch am kn' cv' la' ls')) : wpX_apply post (qj_S m so ar sn mb ch am kn cv la ls) (nI r) (nI c) (nI o) (nI n) := by
  unfold wpX_apply
  dsimp only
  rw [nI_clamp (show c < 2 ^ 31 by omega)]
  refine ⟨vp_in_nI hc (by omega), nm_e (br_c (fun h0 => ?_) (fun h0 => br_c (fun h1 => ?_) (fun h1 => br_c (fun h2 => ?_) (fun h2 => br_c (fun h4 => ?_) (fun h4 => ?_)))))⟩
  · obtain ⟨e, he, hae⟩ := ha (Or.inl h0)
    have n2 : ¬ so c = 2 := by rw [h0]; decide
    have n4 : ¬ so c = 4 := by rw [h0]; decide
    refine ⟨vp_in_nI hc (by omega), ?_⟩
    rw [hae, qj_i24, nI_clamp (show 24 * r + 3 * e + o < 2 ^ 31 by omega)]
    exact ⟨vp_in_nI (by omega) (by omega), nm_r (qj_upd _ _ _) (qj_128 hr ho (H _ _ _ _ ⟨rfl, qj_C_id n4, qj_D_0 ho he h0 hae, qj_E_id n2 n4⟩))⟩
  · obtain ⟨e, he, hae⟩ := ha (Or.inr h1)
    have n2 : ¬ so c = 2 := by rw [h1]; decide
    have n4 : ¬ so c = 4 := by rw [h1]; decide
    refine ⟨vp_in_nI hc (by omega), ?_⟩
    rw [hae]
    exact qj_dropAdds hr he hc bs bl (fun la' h => qj_128 hr ho (H _ _ _ _ ⟨rfl, qj_C_id n4, qj_D_1 he h1 hae h, qj_E_id n2 n4⟩))
  · have n4 : ¬ so c = 4 := by rw [h2]; decide
    refine qj_dropAssigns hr hc bs bt (fun ls' h => ?_)
    show vp_in (3 * nI r + nI o) 9 ∧ _
    rw [qj_i3, nI_clamp (show 3 * r + o < 2 ^ 31 by omega)]
    exact ⟨vp_in_nI (by omega) (by omega), nm_r (qj_upd _ _ _) (qj_128 hr ho (H _ _ _ _ ⟨rfl, qj_C_id n4, qj_D_id h0 h1 n4, qj_E_2 ho h2 h⟩))⟩
  · refine qj_95 hr hc ho bs bc bl bt (fun cv' la' ls' k1 k2 k3 => H _ _ _ _ ⟨rfl, qj_Fcg k1 (fun q _ => ?_), qj_Fcg k2 (fun q _ => ?_), qj_Fcg k3 (fun q _ => ?_)⟩)
    · unfold qj_gC
      rw [if_pos h4]
    · unfold qj_gD
      rw [if_neg (fun x => h0 x.1.1), if_pos (Or.inr h4)]
    · unfold qj_gE
      rw [if_neg (fun x => h2 x.1), if_pos (Or.inr h4)]
  · exact qj_128 hr ho (H _ _ _ _ ⟨rfl, qj_C_id h4, qj_D_id h0 h1 h4, qj_E_id h2 h4⟩)
theorem qj_155 {post : Int32 → St1 → Prop} {r c n : Nat} {z0 z1 : Int32} (hr : r < 3) (hc : c < 48) (hn : n ≤ 48) (bs : ∀ k, sn k ≤ 48) (bc : ∀ k, cv k ≤ 48) (bl : ∀ k, la k ≤ 48) (bt : ∀ k, ls k ≤ 48)
    (ha : so c = 0 ∨ so c = 1 → ∃ e, e < 8 ∧ ar c = nI e)
    (H : ∀ am' kn' cv' la' ls', qj_AP so ar sn kn cv la ls r c r n kn' cv' la' ls' → post (nI m) (qj_S m so ar sn mb ch am' kn' cv' la' ls')) :
    wX_make_155 post (nI r) (nI c) (nI n) z0 z1 (nI (49 * r + n)) (nI m) so ar (qj_v sn) (qj_v mb) (qj_v ch) am (qj_v kn) (qj_v cv) (qj_v la) (qj_v ls) := by
  unfold wX_make_155
  exact ⟨vp_in_nI (by omega) (by omega), nm_e (qj_apply hr hc hr bs bc bl bt ha (fun kn' cv' la' ls' h => H _ kn' cv' la' ls' h))⟩
theorem qj_make {post : Int32 → St1 → Prop} {r : Nat} {sk a : Int32} (hr : r < 3) (hm : m ≤ 48) (hmb : mb r ≤ m) (bs : ∀ k, sn k ≤ 48) (bk : ∀ k, kn k ≤ 48) (bc : ∀ k, cv k ≤ 48) (bl : ∀ k, la k ≤ 48) (bt : ∀ k, ls k ≤ 48)
    (ha : sk = 0 ∨ sk = 1 → ∃ e, e < 8 ∧ a = nI e)
    (H0 : ¬ m < 48 → post (-1) (qj_S m so ar sn mb ch am kn cv la ls))
    (H : m < 48 → ∀ sn' am' kn' cv' la' ls', qj_Fill (3 * m) (fun q => kn (3 * r + q)) sn 3 sn' → qj_AP (upd so m sk) (upd ar m a) sn' kn cv la ls r m r (mb r + 1) kn' cv' la' ls' →
      post (nI (m + 1)) (qj_S (m + 1) (upd so m sk) (upd ar m a) sn' (qj_u mb r (mb r + 1)) (qj_u ch (49 * r + (mb r + 1)) m) am' kn' cv' la' ls')) :
    wpX_make post (qj_S m so ar sn mb ch am kn cv la ls) (nI r) sk a := by
  unfold wpX_make
  dsimp only
  refine qj_rep hr (br_f qj_n10 (pk_lt m 48 (fun h48 => nm_r (nI_1 m) ?_) (fun z => H0 (by omega))))
  rw [nI_clamp (show m < 2 ^ 31 by omega)]
  refine ⟨vp_in_nI h48 (by omega), nm_e ⟨vp_in_nI h48 (by omega), nm_e ?_⟩⟩
  refine pk_loop (fun n i s => wX_make_53 post (nI r) sk a (nI m) (nI (m + 1)) n (nI i) (upd so m sk) (upd ar m a) (qj_v s) (qj_v mb) (qj_v ch) am (qj_v kn) (qj_v cv) (qj_v la) (qj_v ls)) (fun i s => qj_Fill (3 * m) (fun q => kn (3 * r + q)) sn i s) 3 0 sn (by omega) (qj_F0 _ _ _) ?_ ?_
  · intro n s h
    have bs' : ∀ k, s k ≤ 48 := qj_Fle h (fun q _ => bk _) bs
    have ha' : upd so m sk m = 0 ∨ upd so m sk m = 1 → ∃ e, e < 8 ∧ upd ar m a m = nI e := by
      rw [pk_us, pk_us]
      exact ha
    refine pk_le 3 3 (fun _ => ?_) (fun z => absurd z (by omega))
    rw [nI_clamp (show r < 2 ^ 31 by omega)]
    refine ⟨vp_in_nI hr (by omega), nm_r (nI_1 (mb r)) ?_⟩
    rw [qj_i49, nI_clamp (show 49 * r + (mb r + 1) < 2 ^ 31 by omega)]
    rw [show nI (49 * r + (mb r + 1)) - 1 = nI (49 * r + mb r) from nI_pred _]
    refine ⟨vp_in_nI hr (by omega), nm_r (qj_upd _ _ _) ⟨vp_in_nI (by omega) (by omega), nm_r (qj_upd _ _ _) ⟨vp_in_nI (by omega) (by omega), br_c (fun _ => ?_) (fun _ => ?_)⟩⟩⟩
    · exact qj_155 hr h48 (by omega) bs' bc bl bt ha' (fun am' kn' cv' la' ls' h' => H h48 s am' kn' cv' la' ls' h h')
    · exact qj_155 hr h48 (by omega) bs' bc bl bt ha' (fun am' kn' cv' la' ls' h' => H h48 s am' kn' cv' la' ls' h h')
  · intro n i s hi h hw
    refine pk_le 3 i (fun z => absurd z (by omega)) (fun _ => ?_)
    rw [qj_i3, qj_i3, nI_clamp (show 3 * r + i < 2 ^ 31 by omega), nI_clamp (show 3 * m + i < 2 ^ 31 by omega)]
    exact ⟨vp_in_nI (by omega) (by omega), vp_in_nI (by omega) (by omega), nm_r (qj_upd s (3 * m + i) (kn (3 * r + i))) (nm_r (nI_1 i) (hw _ (qj_Fs h rfl rfl)))⟩
theorem qj_deliver {post : Int32 → St1 → Prop} {f t : Nat} (hf : f < 3) (ht : t < 3) (hmb : mb f ≤ 48) (bs : ∀ k, sn k ≤ 48) (bk : ∀ k, kn k ≤ 48) (bc : ∀ k, cv k ≤ 48) (bl : ∀ k, la k ≤ 48) (bt : ∀ k, ls k ≤ 48)
    (hch : kn (3 * t + f) + 1 ≤ mb f → ch (49 * f + (kn (3 * t + f) + 1)) < 48)
    (ha : kn (3 * t + f) + 1 ≤ mb f → so (ch (49 * f + (kn (3 * t + f) + 1))) = 0 ∨ so (ch (49 * f + (kn (3 * t + f) + 1))) = 1 → ∃ e, e < 8 ∧ ar (ch (49 * f + (kn (3 * t + f) + 1))) = nI e)
    (H0 : ¬ (kn (3 * t + f) + 1 ≤ mb f ∧ ∀ q, q < 3 → sn (3 * ch (49 * f + (kn (3 * t + f) + 1)) + q) ≤ kn (3 * t + q)) → ∀ v, post v (qj_S m so ar sn mb ch am kn cv la ls))
    (H : kn (3 * t + f) + 1 ≤ mb f → (∀ q, q < 3 → sn (3 * ch (49 * f + (kn (3 * t + f) + 1)) + q) ≤ kn (3 * t + q)) → ∀ kn' cv' la' ls', qj_AP so ar sn kn cv la ls t (ch (49 * f + (kn (3 * t + f) + 1))) f (kn (3 * t + f) + 1) kn' cv' la' ls' → post 0 (qj_S m so ar sn mb ch am kn' cv' la' ls')) :
    wpX_deliver post (qj_S m so ar sn mb ch am kn cv la ls) (nI f) (nI t) := by
  unfold wpX_deliver
  dsimp only
  refine qj_rep hf (br_f qj_n10 (qj_rep ht (br_f qj_n10 ?_)))
  have b1 := bk (3 * t + f)
  rw [qj_i3, nI_clamp (show 3 * t + f < 2 ^ 31 by omega), nI_clamp (show f < 2 ^ 31 by omega)]
  refine ⟨vp_in_nI (by omega) (by omega), nm_r (nI_1 (kn (3 * t + f))) ⟨vp_in_nI hf (by omega), pk_le (kn (3 * t + f) + 1) (mb f) (fun z => ?_) (fun z => H0 (fun y => absurd y.1 (by omega)) _)⟩⟩
  rw [qj_i49, nI_clamp (show 49 * f + (kn (3 * t + f) + 1) < 2 ^ 31 by omega)]
  refine ⟨vp_in_nI (by omega) (by omega), nm_r (qj_ve _ _) ?_⟩
  have hc := hch z
  have ha' := ha z
  have H' := H z
  have H0' := fun (y : ¬ ∀ q, q < 3 → sn (3 * ch (49 * f + (kn (3 * t + f) + 1)) + q) ≤ kn (3 * t + q)) => H0 (fun x => y x.2)
  revert hc ha' H' H0'
  generalize ch (49 * f + (kn (3 * t + f) + 1)) = c
  generalize hn : kn (3 * t + f) + 1 = n
  intro hc ha' H' H0'
  refine pk_loop (σ := Unit) (fun fu i _ => wX_deliver_57 post (nI f) (nI t) (nI n) (nI c) (nI m) so ar (qj_v sn) (qj_v mb) (qj_v ch) am (qj_v kn) (qj_v cv) (qj_v la) (qj_v ls) fu (nI i)) (fun i _ => ∀ q, q < i → sn (3 * c + q) ≤ kn (3 * t + q)) 3 0 () (by omega) (fun q hq => absurd hq (by omega)) ?_ ?_
  · exact fun fu s h => pk_le 3 3 (fun _ => qj_apply ht hc hf bs bc bl bt ha' (fun kn' cv' la' ls' h' => H' h kn' cv' la' ls' h')) (fun z => absurd z (by omega))
  · intro fu i s hi h hw
    have b2 := bs (3 * c + i)
    have b3 := bk (3 * t + i)
    refine pk_le 3 i (fun z => absurd z (by omega)) (fun _ => ?_)
    rw [qj_i3, qj_i3, nI_clamp (show 3 * c + i < 2 ^ 31 by omega), nI_clamp (show 3 * t + i < 2 ^ 31 by omega)]
    refine ⟨vp_in_nI (by omega) (by omega), vp_in_nI (by omega) (by omega), pk_le (sn (3 * c + i)) (kn (3 * t + i)) (fun z => nm_r (nI_1 i) (hw () (lt_s h z))) (fun z => H0' (fun y => ?_) _)⟩
    have := y i hi
    omega
end
end
section
section
variable {m : Nat} {so ar : Nat → Int32} {sn mb ch : Nat → Nat} {am : Nat → Int32} {kn cv la ls : Nat → Nat}
/-! has -/
def qj_hv (x y z : Nat) : Int32 := if 0 < x ∨ 0 < y ∨ 0 < z then 1 else 0
theorem qj_has_s {post : Int32 → Prop} {b i n : Nat} (hi : i < 3) (hb : b + i < 72) (bl : ∀ k, la k ≤ 48) (H1 : 0 < la (b + i) → post 1)
    (H0 : la (b + i) = 0 → wX_has_24 post (nI b) (nI m) so ar (qj_v sn) (qj_v mb) (qj_v ch) am (qj_v kn) (qj_v cv) (qj_v la) (qj_v ls) n (nI (i + 1))) :
    wX_has_24 post (nI b) (nI m) so ar (qj_v sn) (qj_v mb) (qj_v ch) am (qj_v kn) (qj_v cv) (qj_v la) (qj_v ls) (n + 1) (nI i) := by
  have b1 := bl (b + i)
  refine pk_le 3 i (fun z => absurd z (by omega)) (fun _ => ?_)
  rw [nI_add, nI_clamp (show b + i < 2 ^ 31 by omega)]
  exact ⟨vp_in_nI hb (by omega), pk_le (la (b + i)) 0 (fun z => nm_r (nI_1 i) (H0 (by omega))) (fun z => H1 z)⟩
theorem qj_has {post : Int32 → Prop} {r e : Nat} {x : Int32} (hr : r < 3) (he : e < 8) (hx : x &&& 7 = nI e) (bl : ∀ k, la k ≤ 48)
    (H : post (qj_hv (la (24 * r + 3 * e + 0)) (la (24 * r + 3 * e + 1)) (la (24 * r + 3 * e + 2)))) : wpX_has post (qj_S m so ar sn mb ch am kn cv la ls) (nI r) x := by
  unfold wpX_has
  dsimp only
  refine qj_rep hr (br_f qj_n10 ?_)
  rw [hx, qj_i24b]
  unfold qj_hv at H
  refine nm_e ⟨4, ?_⟩
  refine qj_has_s (i := 0) (by omega) (by omega) bl (fun z => ?_) (fun z0 => qj_has_s (i := 1) (by omega) (by omega) bl (fun z => ?_) (fun z1 => qj_has_s (i := 2) (by omega) (by omega) bl (fun z => ?_) (fun z2 => pk_le 3 3 (fun _ => ?_) (fun z => absurd z (by omega)))))
  · rw [if_pos (Or.inl z)] at H
    exact H
  · rw [if_pos (Or.inr (Or.inl z))] at H
    exact H
  · rw [if_pos (Or.inr (Or.inr z))] at H
    exact H
  · rw [if_neg (by omega)] at H
    exact H
/-! values -/
def qj_c (x : Nat) : Nat := if 0 < x then 1 else 0
theorem qj_cle (x : Nat) : qj_c x ≤ 1 := by
  unfold qj_c
  split <;> omega
theorem qj_val_s {post : Int32 → Prop} {r i k n : Nat} (hr : r < 3) (hi : i < 3) (bl : ∀ k, ls k ≤ 48)
    (H : wX_values_13 post (nI r) (nI m) so ar (qj_v sn) (qj_v mb) (qj_v ch) am (qj_v kn) (qj_v cv) (qj_v la) (qj_v ls) n (nI (k + qj_c (ls (3 * r + i)))) (nI (i + 1))) :
    wX_values_13 post (nI r) (nI m) so ar (qj_v sn) (qj_v mb) (qj_v ch) am (qj_v kn) (qj_v cv) (qj_v la) (qj_v ls) (n + 1) (nI k) (nI i) := by
  have b1 := bl (3 * r + i)
  refine pk_le 3 i (fun z => absurd z (by omega)) (fun _ => ?_)
  rw [qj_i3, nI_clamp (show 3 * r + i < 2 ^ 31 by omega)]
  refine ⟨vp_in_nI (by omega) (by omega), pk_le (ls (3 * r + i)) 0 (fun z => nm_r (nI_1 i) ?_) (fun z => nm_r (nI_1 k) (nm_r (nI_1 i) ?_))⟩
  · unfold qj_c at H
    rw [if_neg (by omega)] at H
    exact H
  · unfold qj_c at H
    rw [if_pos z] at H
    exact H
/-- the number of surviving values, of the row B -/
def qj_vn (x y z : Nat) : Nat := 0 + qj_c x + qj_c y + qj_c z
theorem qj_vnle (x y z : Nat) : qj_vn x y z ≤ 3 := by
  have := qj_cle x
  have := qj_cle y
  have := qj_cle z
  unfold qj_vn
  omega
theorem qj_values {post : Int32 → Prop} {r : Nat} (hr : r < 3) (bl : ∀ k, ls k ≤ 48)
    (H : post (nI (qj_vn (ls (3 * r + 0)) (ls (3 * r + 1)) (ls (3 * r + 2))))) : wpX_values post (qj_S m so ar sn mb ch am kn cv la ls) (nI r) := by
  unfold wpX_values
  dsimp only
  refine qj_rep hr (br_f qj_n10 ⟨4, ?_⟩)
  exact qj_val_s (i := 0) (k := 0) hr (by omega) bl (qj_val_s (i := 1) hr (by omega) bl (qj_val_s (i := 2) hr (by omega) bl (pk_le 3 3 (fun _ => H) (fun z => absurd z (by omega)))))
/-! total -/
theorem qj_tot_s {post : Int32 → Prop} {r i n : Nat} {x : Int32} (hr : r < 3) (hi : i < 3) (bk : ∀ k, kn k ≤ 48) (bc : ∀ k, cv k ≤ 48)
    (H : wX_total_13 post (nI r) (nI m) so ar (qj_v sn) (qj_v mb) (qj_v ch) am (qj_v kn) (qj_v cv) (qj_v la) (qj_v ls) n (x + (am (49 * i + kn (3 * r + i)) - am (49 * i + cv (3 * r + i)))) (nI (i + 1))) :
    wX_total_13 post (nI r) (nI m) so ar (qj_v sn) (qj_v mb) (qj_v ch) am (qj_v kn) (qj_v cv) (qj_v la) (qj_v ls) (n + 1) x (nI i) := by
  have b1 := bk (3 * r + i)
  have b2 := bc (3 * r + i)
  refine pk_le 3 i (fun z => absurd z (by omega)) (fun _ => ?_)
  rw [qj_i3, nI_clamp (show 3 * r + i < 2 ^ 31 by omega), qj_ve kn, qj_ve cv, qj_i49, qj_i49, nI_clamp (show 49 * i + kn (3 * r + i) < 2 ^ 31 by omega), nI_clamp (show 49 * i + cv (3 * r + i) < 2 ^ 31 by omega)]
  exact ⟨vp_in_nI (by omega) (by omega), vp_in_nI (by omega) (by omega), nm_e ⟨vp_in_nI (by omega) (by omega), vp_in_nI (by omega) (by omega), nm_e (nm_r (nI_1 i) H)⟩⟩
theorem qj_total {post : Int32 → Prop} {r : Nat} (hr : r < 3) (bk : ∀ k, kn k ≤ 48) (bc : ∀ k, cv k ≤ 48)
    (H : post (0 + (am (49 * 0 + kn (3 * r + 0)) - am (49 * 0 + cv (3 * r + 0))) + (am (49 * 1 + kn (3 * r + 1)) - am (49 * 1 + cv (3 * r + 1))) + (am (49 * 2 + kn (3 * r + 2)) - am (49 * 2 + cv (3 * r + 2))))) :
    wpX_total post (qj_S m so ar sn mb ch am kn cv la ls) (nI r) := by
  unfold wpX_total
  dsimp only
  refine qj_rep hr (br_f qj_n10 ⟨4, ?_⟩)
  exact qj_tot_s (i := 0) hr (by omega) bk bc (qj_tot_s (i := 1) hr (by omega) bk bc (qj_tot_s (i := 2) hr (by omega) bk bc (pk_le 3 3 (fun _ => H) (fun z => absurd z (by omega)))))
theorem qj_known {post : Int32 → Prop} {r o : Nat} (hr : r < 3) (ho : o < 3) (H : post (nI (kn (3 * r + o)))) : wpX_known post (qj_S m so ar sn mb ch am kn cv la ls) (nI r) (nI o) := by
  unfold wpX_known
  dsimp only
  refine qj_rep hr (br_f qj_n10 (qj_rep ho (br_f qj_n10 ?_)))
  rw [qj_i3, nI_clamp (show 3 * r + o < 2 ^ 31 by omega)]
  exact ⟨vp_in_nI (by omega) (by omega), H⟩
/-! the register -/
def qj_row (ls : Nat → Nat) (r : Nat) : Nat → Nat := fun q => ls (3 * r + q)
def qj_V (ar : Nat → Int32) (ch B : Nat → Nat) (o : Nat) : Int32 := ar (ch (49 * o + B o))
def qj_pl (ar : Nat → Int32) (ch B : Nat → Nat) (o i : Nat) : Nat := if i ≠ o ∧ 0 < B i ∧ (qj_V ar ch B i < qj_V ar ch B o ∨ (qj_V ar ch B i = qj_V ar ch B o ∧ i < o)) then 1 else 0
def qj_pp (ar : Nat → Int32) (ch B : Nat → Nat) (o : Nat) : Nat := 0 + qj_pl ar ch B o 0 + qj_pl ar ch B o 1 + qj_pl ar ch B o 2
def qj_vv (ar : Nat → Int32) (ch B : Nat → Nat) (p : Int32) : Int32 :=
  if 0 < B 0 ∧ nI (qj_pp ar ch B 0) = p then qj_V ar ch B 0 else if 0 < B 1 ∧ nI (qj_pp ar ch B 1) = p then qj_V ar ch B 1 else if 0 < B 2 ∧ nI (qj_pp ar ch B 2) = p then qj_V ar ch B 2 else 0
theorem qj_V_cg {B B' : Nat → Nat} {i : Nat} (h : B i = B' i) : qj_V ar ch B i = qj_V ar ch B' i := by
  unfold qj_V
  rw [h]
theorem qj_pl_cg {B B' : Nat → Nat} {o i : Nat} (ho : B o = B' o) (hi : B i = B' i) : qj_pl ar ch B o i = qj_pl ar ch B' o i := by
  unfold qj_pl
  rw [qj_V_cg ho, qj_V_cg hi, hi]
theorem qj_pp_cg {B B' : Nat → Nat} {o : Nat} (ho : B o = B' o) (h0 : B 0 = B' 0) (h1 : B 1 = B' 1) (h2 : B 2 = B' 2) : qj_pp ar ch B o = qj_pp ar ch B' o := by
  unfold qj_pp
  rw [qj_pl_cg ho h0, qj_pl_cg ho h1, qj_pl_cg ho h2]
theorem qj_vv_cg {B B' : Nat → Nat} (p : Int32) (h0 : B 0 = B' 0) (h1 : B 1 = B' 1) (h2 : B 2 = B' 2) : qj_vv ar ch B p = qj_vv ar ch B' p := by
  unfold qj_vv
  rw [qj_pp_cg h0 h0 h1 h2, qj_pp_cg h1 h0 h1 h2, qj_pp_cg h2 h0 h1 h2, qj_V_cg h0, qj_V_cg h1, qj_V_cg h2, h0, h1, h2]
theorem qj_vf {post : Int32 → Prop} {r o : Nat} (hr : r < 3) (ho : o < 3) (bl : ∀ k, ls k ≤ 48) (hc : ch (49 * o + ls (3 * r + o)) < 48) (H : post (qj_V ar ch (qj_row ls r) o)) : wpX_valueFrom post (qj_S m so ar sn mb ch am kn cv la ls) (nI r) (nI o) := by
  have b1 := bl (3 * r + o)
  unfold wpX_valueFrom
  dsimp only
  rw [qj_i3, nI_clamp (show 3 * r + o < 2 ^ 31 by omega), qj_ve ls, qj_i49, nI_clamp (show 49 * o + ls (3 * r + o) < 2 ^ 31 by omega)]
  refine ⟨vp_in_nI (by omega) (by omega), vp_in_nI (by omega) (by omega), nm_r (qj_ve _ _) ?_⟩
  rw [nI_clamp (show ch (49 * o + ls (3 * r + o)) < 2 ^ 31 by omega)]
  exact ⟨vp_in_nI hc (by omega), H⟩
theorem qj_pl_s {post : Int32 → Prop} {r o i k n : Nat} (hr : r < 3) (ho : o < 3) (hi : i < 3) (bl : ∀ k, ls k ≤ 48) (hc : ∀ o, o < 3 → 0 < ls (3 * r + o) → ch (49 * o + ls (3 * r + o)) < 48)
    (H : wX_placeOfValue_13 post (nI r) (nI o) (qj_V ar ch (qj_row ls r) o) (nI m) so ar (qj_v sn) (qj_v mb) (qj_v ch) am (qj_v kn) (qj_v cv) (qj_v la) (qj_v ls) n (nI (k + qj_pl ar ch (qj_row ls r) o i)) (nI (i + 1))) :
    wX_placeOfValue_13 post (nI r) (nI o) (qj_V ar ch (qj_row ls r) o) (nI m) so ar (qj_v sn) (qj_v mb) (qj_v ch) am (qj_v kn) (qj_v cv) (qj_v la) (qj_v ls) (n + 1) (nI k) (nI i) := by
  have b1 := bl (3 * r + i)
  have no : ∀ x : ¬ (i ≠ o ∧ 0 < qj_row ls r i ∧ (qj_V ar ch (qj_row ls r) i < qj_V ar ch (qj_row ls r) o ∨ (qj_V ar ch (qj_row ls r) i = qj_V ar ch (qj_row ls r) o ∧ i < o))), wX_placeOfValue_13 post (nI r) (nI o) (qj_V ar ch (qj_row ls r) o) (nI m) so ar (qj_v sn) (qj_v mb) (qj_v ch) am (qj_v kn) (qj_v cv) (qj_v la) (qj_v ls) n (nI k) (nI (i + 1)) := by
    intro x
    unfold qj_pl at H
    rw [if_neg x] at H
    exact H
  have yes : ∀ x : (i ≠ o ∧ 0 < qj_row ls r i ∧ (qj_V ar ch (qj_row ls r) i < qj_V ar ch (qj_row ls r) o ∨ (qj_V ar ch (qj_row ls r) i = qj_V ar ch (qj_row ls r) o ∧ i < o))), wX_placeOfValue_13 post (nI r) (nI o) (qj_V ar ch (qj_row ls r) o) (nI m) so ar (qj_v sn) (qj_v mb) (qj_v ch) am (qj_v kn) (qj_v cv) (qj_v la) (qj_v ls) n (nI (k + 1)) (nI (i + 1)) := by
    intro x
    unfold qj_pl at H
    rw [if_pos x] at H
    exact H
  clear H
  refine pk_le 3 i (fun z => absurd z (by omega)) (fun _ => pk_eq i o (fun e => nm_r (nI_1 i) (no (fun x => x.1 e))) (fun e => ?_))
  rw [qj_i3, nI_clamp (show 3 * r + i < 2 ^ 31 by omega)]
  refine ⟨vp_in_nI (by omega) (by omega), pk_le (ls (3 * r + i)) 0 (fun z => nm_r (nI_1 i) (no (fun x => ?_))) (fun z => ?_)⟩
  · have y : 0 < ls (3 * r + i) := x.2.1
    omega
  · refine qj_vf hr hi bl (hc i hi z) (br_c (fun g => nm_r (nI_1 k) (nm_r (nI_1 i) (yes ⟨e, z, Or.inl g⟩))) (fun g => br_c (fun g2 => pk_le o i (fun g3 => nm_r (nI_1 i) (no (fun x => ?_))) (fun g3 => nm_r (nI_1 k) (nm_r (nI_1 i) (yes ⟨e, z, Or.inr ⟨g2, g3⟩⟩)))) (fun g2 => nm_r (nI_1 i) (no (fun x => ?_)))))
    · rcases x.2.2 with y | y
      · exact g y
      · omega
    · rcases x.2.2 with y | y
      · exact g y
      · exact g2 y.1
theorem qj_place {post : Int32 → Prop} {r o : Nat} (hr : r < 3) (ho : o < 3) (bl : ∀ k, ls k ≤ 48) (hc : ∀ o, o < 3 → 0 < ls (3 * r + o) → ch (49 * o + ls (3 * r + o)) < 48) (h : 0 < ls (3 * r + o))
    (H : post (nI (qj_pp ar ch (qj_row ls r) o))) : wpX_placeOfValue post (qj_S m so ar sn mb ch am kn cv la ls) (nI r) (nI o) := by
  unfold wpX_placeOfValue
  dsimp only
  refine qj_vf hr ho bl (hc o ho h) ⟨4, ?_⟩
  exact qj_pl_s (i := 0) (k := 0) hr ho (by omega) bl hc (qj_pl_s (i := 1) hr ho (by omega) bl hc (qj_pl_s (i := 2) hr ho (by omega) bl hc (pk_le 3 3 (fun _ => H) (fun z => absurd z (by omega)))))
theorem qj_value_s {post : Int32 → Prop} {r i n : Nat} {p : Int32} (hr : r < 3) (hi : i < 3) (bl : ∀ k, ls k ≤ 48) (hc : ∀ o, o < 3 → 0 < ls (3 * r + o) → ch (49 * o + ls (3 * r + o)) < 48)
    (H1 : 0 < qj_row ls r i ∧ nI (qj_pp ar ch (qj_row ls r) i) = p → post (qj_V ar ch (qj_row ls r) i))
    (H0 : ¬ (0 < qj_row ls r i ∧ nI (qj_pp ar ch (qj_row ls r) i) = p) → wX_value_11 post (nI r) p (nI m) so ar (qj_v sn) (qj_v mb) (qj_v ch) am (qj_v kn) (qj_v cv) (qj_v la) (qj_v ls) n (nI (i + 1))) :
    wX_value_11 post (nI r) p (nI m) so ar (qj_v sn) (qj_v mb) (qj_v ch) am (qj_v kn) (qj_v cv) (qj_v la) (qj_v ls) (n + 1) (nI i) := by
  have b1 := bl (3 * r + i)
  refine pk_le 3 i (fun z => absurd z (by omega)) (fun _ => ?_)
  rw [qj_i3, nI_clamp (show 3 * r + i < 2 ^ 31 by omega)]
  refine ⟨vp_in_nI (by omega) (by omega), pk_le (ls (3 * r + i)) 0 (fun z => nm_r (nI_1 i) (H0 (fun x => ?_))) (fun z => qj_place hr hi bl hc z (br_c (fun g => qj_vf hr hi bl (hc i hi z) (H1 ⟨z, g⟩)) (fun g => nm_r (nI_1 i) (H0 (fun x => g x.2)))))⟩
  have y : 0 < ls (3 * r + i) := x.1
  omega
theorem qj_value {post : Int32 → Prop} {r : Nat} {p : Int32} (hr : r < 3) (bl : ∀ k, ls k ≤ 48) (hc : ∀ o, o < 3 → 0 < ls (3 * r + o) → ch (49 * o + ls (3 * r + o)) < 48)
    (H : post (qj_vv ar ch (qj_row ls r) p)) : wpX_value post (qj_S m so ar sn mb ch am kn cv la ls) (nI r) p := by
  unfold wpX_value
  dsimp only
  unfold qj_vv at H
  refine qj_rep hr (br_f qj_n10 ⟨4, ?_⟩)
  refine qj_value_s (i := 0) hr (by omega) bl hc (fun z => ?_) (fun z0 => qj_value_s (i := 1) hr (by omega) bl hc (fun z => ?_) (fun z1 => qj_value_s (i := 2) hr (by omega) bl hc (fun z => ?_) (fun z2 => pk_le 3 3 (fun _ => ?_) (fun z => absurd z (by omega)))))
  · rw [if_pos z] at H
    exact H
  · rw [if_neg z0, if_pos z] at H
    exact H
  · rw [if_neg z0, if_neg z1, if_pos z] at H
    exact H
  · rw [if_neg z0, if_neg z1, if_neg z2] at H
    exact H
/-! two replicas with the same rows are alike -/
def qj_Eq (kn cv la ls : Nat → Nat) (r s : Nat) : Prop := (∀ q, q < 3 → kn (3 * r + q) = kn (3 * s + q)) ∧ (∀ q, q < 3 → cv (3 * r + q) = cv (3 * s + q)) ∧ (∀ e q, e < 8 → q < 3 → la (24 * r + 3 * e + q) = la (24 * s + 3 * e + q)) ∧ (∀ q, q < 3 → ls (3 * r + q) = ls (3 * s + q))
theorem qj_a102 {post : Int32 → Prop} {r s : Nat} (hr : r < 3) (hs : s < 3) (h : ∀ q, q < 3 → kn (3 * r + q) = kn (3 * s + q)) (H : post 1) :
    wL_alike_102 post (nI r) (nI s) (nI m) so ar (qj_v sn) (qj_v mb) (qj_v ch) am (qj_v kn) (qj_v cv) (qj_v la) (qj_v ls) := by
  have e : ∀ q, q < 3 → nI (kn (3 * r + q)) = nI (kn (3 * s + q)) := fun q hq => by rw [h q hq]
  unfold wL_alike_102
  exact qj_known (o := 0) hr (by omega) (qj_known (o := 0) hs (by omega) (br_t (e 0 (by omega)) (qj_known (o := 1) hr (by omega) (qj_known (o := 1) hs (by omega) (br_t (e 1 (by omega)) (qj_known (o := 2) hr (by omega) (qj_known (o := 2) hs (by omega) (br_t (e 2 (by omega)) H))))))))
theorem qj_alike {post : Int32 → Prop} {r s : Nat} (hr : r < 3) (hs : s < 3) (bk : ∀ k, kn k ≤ 48) (bc : ∀ k, cv k ≤ 48) (bl : ∀ k, la k ≤ 48) (bt : ∀ k, ls k ≤ 48)
    (hc : ∀ r, r < 3 → ∀ o, o < 3 → 0 < ls (3 * r + o) → ch (49 * o + ls (3 * r + o)) < 48) (h : qj_Eq kn cv la ls r s) (H : post 1) : wpL_alike post (qj_S m so ar sn mb ch am kn cv la ls) (nI r) (nI s) := by
  obtain ⟨hk, hv, ha, hb⟩ := h
  refine pk_loop (σ := Unit) (fun n i _ => wL_alike_2 post (nI r) (nI s) (nI m) so ar (qj_v sn) (qj_v mb) (qj_v ch) am (qj_v kn) (qj_v cv) (qj_v la) (qj_v ls) n (nI i)) (fun _ _ => True) 8 0 () (by omega) trivial ?_ ?_
  · intro n _ _
    refine pk_le 8 8 (fun _ => ?_) (fun z => absurd z (by omega))
    refine qj_values hr bt (qj_values hs bt (br_t (by rw [hb 0 (by omega), hb 1 (by omega), hb 2 (by omega)]) (qj_total hr bk bc (qj_total hs bk bc (br_t (by rw [hk 0 (by omega), hk 1 (by omega), hk 2 (by omega), hv 0 (by omega), hv 1 (by omega), hv 2 (by omega)]) ?_)))))
    have hn := qj_vnle (ls (3 * r + 0)) (ls (3 * r + 1)) (ls (3 * r + 2))
    generalize qj_vn (ls (3 * r + 0)) (ls (3 * r + 1)) (ls (3 * r + 2)) = v at hn
    refine pk_loop (σ := Unit) (fun n i _ => wL_alike_64 post (nI r) (nI s) (nI v) (nI m) so ar (qj_v sn) (qj_v mb) (qj_v ch) am (qj_v kn) (qj_v cv) (qj_v la) (qj_v ls) n (nI i)) (fun _ _ => True) (v + 1) 0 () (by omega) trivial ?_ ?_
    · exact fun n _ _ => pk_lt v (v + 1) (fun _ => qj_a102 hr hs hk H) (fun z => absurd z (by omega))
    · intro n i _ hi _ hw
      refine pk_lt v i (fun z => absurd z (by omega)) (fun _ => pk_le 49 i (fun z => absurd z (by omega)) (fun _ => ?_))
      exact qj_value hr bt (hc r hr) (qj_value hs bt (hc s hs) (br_t (qj_vv_cg _ (hb 0 (by omega)) (hb 1 (by omega)) (hb 2 (by omega))) (nm_r (nI_1 i) (hw () trivial))))
  · intro n i _ hi _ hw
    have hx : nI i &&& 7 = nI i := by
      rw [pk_andN (by omega) 3 (by decide)]
      rw [show i % 2 ^ 3 = i by omega]
    refine pk_le 8 i (fun z => absurd z (by omega)) (fun _ => ?_)
    exact qj_has hr hi hx bl (qj_has hs hi hx bl (br_t (by rw [ha i 0 hi (by omega), ha i 1 hi (by omega), ha i 2 hi (by omega)]) (nm_r (nI_1 i) (hw () trivial))))
end
end
section
/-! the invariant -/
def qj_LG (m : Nat) (so ar : Nat → Int32) (mb ch : Nat → Nat) : Prop := m ≤ 48 ∧ (∀ o, o < 3 → mb o ≤ m) ∧ (∀ o n, o < 3 → 1 ≤ n → n ≤ mb o → ch (49 * o + n) < m) ∧ (∀ c, c < m → so c = 0 ∨ so c = 1 → ∃ e, e < 8 ∧ ar c = nI e)
def qj_BD (sn kn cv la ls : Nat → Nat) : Prop := (∀ k, sn k ≤ 48) ∧ (∀ k, kn k ≤ 48) ∧ (∀ k, cv k ≤ 48) ∧ (∀ k, la k ≤ 48) ∧ (∀ k, ls k ≤ 48)
def qj_RR (so ar : Nat → Int32) (sn ch mb kn cv la ls : Nat → Nat) (r : Nat) : Prop := qj_R so ar sn ch mb (fun q => kn (3 * r + q)) (fun q => cv (3 * r + q)) (fun e q => la (24 * r + 3 * e + q)) (fun q => ls (3 * r + q))
def qj_I (m : Nat) (so ar : Nat → Int32) (sn mb ch kn cv la ls : Nat → Nat) : Prop := qj_LG m so ar mb ch ∧ qj_BD sn kn cv la ls ∧ (∀ r, r < 3 → kn (3 * r + r) = mb r) ∧ ∀ r, r < 3 → qj_RR so ar sn ch mb kn cv la ls r
section
variable {m : Nat} {so ar : Nat → Int32} {sn mb ch : Nat → Nat} {am : Nat → Int32} {kn cv la ls kn' cv' la' ls' : Nat → Nat}
theorem qj_I_0 {so ar : Nat → Int32} : qj_I 0 so ar (fun _ => 0) (fun _ => 0) (fun _ => 0) (fun _ => 0) (fun _ => 0) (fun _ => 0) (fun _ => 0) := by
  refine ⟨⟨by omega, fun _ _ => Nat.le_refl 0, fun o n _ h1 h2 => absurd (show n ≤ 0 from h2) (by omega), fun c hc => absurd hc (by omega)⟩, ⟨fun _ => Nat.zero_le _, fun _ => Nat.zero_le _, fun _ => Nat.zero_le _, fun _ => Nat.zero_le _, fun _ => Nat.zero_le _⟩, fun _ _ => rfl, fun r hr => ?_⟩
  have T0 : ∀ (Q : Nat → Nat → Prop) (w : Nat → Nat → Nat), qj_T Q w (fun _ => 0) 0 := fun Q w => ⟨fun q n _ h1 h2 => absurd (show n ≤ 0 from h2) (by omega), Or.inl rfl⟩
  have F0 : ∀ (P : Nat → Prop), qj_F P 0 0 0 := fun P => ⟨fun n h1 h2 => absurd h2 (by omega), Or.inl rfl⟩
  exact ⟨fun _ _ => Nat.le_refl 0, fun q n o _ h1 h2 => absurd (show n ≤ 0 from h2) (by omega), fun _ _ => T0 _ _, fun _ _ _ _ => ⟨0, T0 _ _, F0 _⟩, fun _ _ => ⟨0, T0 _ _, F0 _⟩⟩
/-- rows of two replicas that know the same -/
theorem qj_I_eq {r s : Nat} (h : qj_I m so ar sn mb ch kn cv la ls) (hr : r < 3) (hs : s < 3) (e : ∀ q, q < 3 → kn (3 * r + q) = kn (3 * s + q)) : qj_Eq kn cv la ls r s := by
  obtain ⟨a, b, c⟩ := qj_R_uniq (h.2.2.2 r hr) (h.2.2.2 s hs) e
  exact ⟨e, a, b, c⟩
theorem qj_I_la {r e o : Nat} (h : qj_I m so ar sn mb ch kn cv la ls) (hr : r < 3) (he : e < 8) (ho : o < 3) : la (24 * r + 3 * e + o) ≤ kn (3 * r + o) := by
  obtain ⟨t, a, b⟩ := (h.2.2.2 r hr).2.2.2.1 e o he ho
  exact qj_F_le b
theorem qj_I_ls {r o : Nat} (h : qj_I m so ar sn mb ch kn cv la ls) (hr : r < 3) (ho : o < 3) : ls (3 * r + o) ≤ kn (3 * r + o) := by
  obtain ⟨t, a, b⟩ := (h.2.2.2 r hr).2.2.2.2 o ho
  exact qj_F_le b
theorem qj_I_kn {r o : Nat} (h : qj_I m so ar sn mb ch kn cv la ls) (hr : r < 3) (ho : o < 3) : kn (3 * r + o) ≤ mb o := (h.2.2.2 r hr).1 o ho
theorem qj_I_hc (h : qj_I m so ar sn mb ch kn cv la ls) : ∀ r, r < 3 → ∀ o, o < 3 → 0 < ls (3 * r + o) → ch (49 * o + ls (3 * r + o)) < 48 := by
  intro r hr o ho hp
  have h1 := qj_I_ls h hr ho
  have h2 := qj_I_kn h hr ho
  have h3 := h.1.2.2.1 o (ls (3 * r + o)) ho (by omega) (by omega)
  have h4 := h.1.1
  omega
/-! sync -/
theorem qj_I_sync {f t : Nat} (h : qj_I m so ar sn mb ch kn cv la ls) (hf : f < 3) (ht : t < 3) (hft : f ≠ t) (y : qj_SY kn cv la ls f t kn' cv' la' ls') : qj_I m so ar sn mb ch kn' cv' la' ls' := by
  have hkf := fun o ho => qj_I_kn (o := o) h hf ho
  obtain ⟨hL, ⟨bs, bk, bc, bl, bt⟩, hd, hR⟩ := h
  obtain ⟨yk, yc, yl, yt⟩ := y
  refine ⟨hL, ⟨bs, qj_Fle yk (fun q _ => ?_) bk, qj_Fle yc (fun q _ => ?_) bc, qj_Fle yl (fun q _ => qj_svle (bl _) (bl _)) bl, qj_Fle yt (fun q _ => qj_svle (bt _) (bt _)) bt⟩, fun r hr => ?_, fun r hr => ?_⟩
  · have := bk (3 * f + q)
    have := bk (3 * t + q)
    unfold qj_gM
    omega
  · have := bc (3 * f + q)
    have := bc (3 * t + q)
    unfold qj_gM
    omega
  · by_cases c : r = t
    · have h1 := hkf t ht
      have h2 := hd t ht
      rw [c, yk.1 t ht]
      unfold qj_gM
      omega
    · rw [qj_Fo yk (by omega)]
      exact hd r hr
  · by_cases c : r = t
    · rw [c]
      refine qj_R_join (hR t ht) (hR f hf) (fun q hq => ?_) (fun q hq => ?_) (fun e q he hq => ?_) (fun q hq => ?_)
      · show kn' (3 * t + q) = max (kn (3 * t + q)) (kn (3 * f + q))
        rw [yk.1 q hq, Nat.max_comm]
        rfl
      · show cv' (3 * t + q) = max (cv (3 * t + q)) (cv (3 * f + q))
        rw [yc.1 q hq, Nat.max_comm]
        rfl
      · show la' (24 * t + 3 * e + q) = qj_sv (la (24 * t + 3 * e + q)) (kn (3 * t + q)) (la (24 * f + 3 * e + q)) (kn (3 * f + q))
        rw [Nat.add_assoc, yl.1 (3 * e + q) (by omega)]
        unfold qj_gA
        rw [show (3 * e + q) % 3 = q by omega, Nat.add_assoc (24 * f)]
      · exact yt.1 q hq
    · exact qj_R_cg (hR r hr) (fun q hq => qj_Fo yk (by omega)) (fun q hq => qj_Fo yc (by omega)) (fun e q he hq => qj_Fo yl (by omega)) (fun q hq => qj_Fo yt (by omega))
/-! one change applied -/
theorem qj_BD_ap {r c o n : Nat} (h : qj_BD sn kn cv la ls) (hn : n ≤ 48) (y : qj_AP so ar sn kn cv la ls r c o n kn' cv' la' ls') : qj_BD sn kn' cv' la' ls' := by
  obtain ⟨bs, bk, bc, bl, bt⟩ := h
  obtain ⟨yk, yc, yl, yt⟩ := y
  refine ⟨bs, by rw [yk]; exact qj_ule bk hn, qj_Fle yc (fun q _ => ?_) bc, qj_Fle yl (fun q _ => ?_) bl, qj_Fle yt (fun q _ => ?_) bt⟩
  · have := bc (3 * r + q)
    have := bs (3 * c + q)
    unfold qj_gC
    split <;> omega
  · unfold qj_gD
    split
    · exact hn
    · split
      · exact qj_drle (bl _)
      · exact bl _
  · unfold qj_gE
    split
    · exact hn
    · split
      · exact qj_drle (bt _)
      · exact bt _
theorem qj_RR_ap {r c o n : Nat} (h : ∀ r, r < 3 → qj_RR so ar sn ch mb kn cv la ls r) (hr : r < 3) (ho : o < 3) (hn : n = kn (3 * r + o) + 1) (hc : ch (49 * o + n) = c) (hm : n ≤ mb o) (hs : ∀ q, q < 3 → sn (3 * c + q) ≤ kn (3 * r + q))
    (y : qj_AP so ar sn kn cv la ls r c o n kn' cv' la' ls') : ∀ x, x < 3 → qj_RR so ar sn ch mb kn' cv' la' ls' x := by
  obtain ⟨yk, yc, yl, yt⟩ := y
  subst hn
  intro x hx
  by_cases z : x = r
  · rw [z]
    refine qj_R_app (o := o) (c := c) (h r hr) ho hc hm hs (fun q hq => ?_) (fun q hq => ?_) (fun e q he hq => ?_) (fun q hq => ?_)
    · show kn' (3 * r + q) = if q = o then kn (3 * r + o) + 1 else kn (3 * r + q)
      rw [yk]
      by_cases g : q = o
      · rw [if_pos g, g, qj_us]
      · rw [if_neg g, qj_un (by omega)]
    · exact yc.1 q hq
    · show la' (24 * r + 3 * e + q) = if (so c = 0 ∧ ar c = nI e) ∧ q = o then kn (3 * r + o) + 1 else if (so c = 1 ∧ ar c = nI e) ∨ so c = 4 then qj_dr (la (24 * r + 3 * e + q)) (sn (3 * c + q)) else la (24 * r + 3 * e + q)
      rw [Nat.add_assoc, yl.1 (3 * e + q) (by omega)]
      unfold qj_gD
      rw [show (3 * e + q) % 3 = q by omega, show (3 * e + q) / 3 = e by omega]
    · exact yt.1 q hq
  · refine qj_R_cg (h x hx) (fun q hq => ?_) (fun q hq => qj_Fo yc (by omega)) (fun e q he hq => qj_Fo yl (by omega)) (fun q hq => qj_Fo yt (by omega))
    show kn' (3 * x + q) = kn (3 * x + q)
    rw [yk]
    exact qj_un (by omega)
theorem qj_I_deliver {f t : Nat} (h : qj_I m so ar sn mb ch kn cv la ls) (hf : f < 3) (ht : t < 3) (hm : kn (3 * t + f) + 1 ≤ mb f) (hs : ∀ q, q < 3 → sn (3 * ch (49 * f + (kn (3 * t + f) + 1)) + q) ≤ kn (3 * t + q))
    (y : qj_AP so ar sn kn cv la ls t (ch (49 * f + (kn (3 * t + f) + 1))) f (kn (3 * t + f) + 1) kn' cv' la' ls') : qj_I m so ar sn mb ch kn' cv' la' ls' := by
  obtain ⟨hL, hB, hd, hR⟩ := h
  have h1 := hL.1
  have h2 := hL.2.1 f hf
  refine ⟨hL, qj_BD_ap hB (by omega) y, fun x hx => ?_, qj_RR_ap hR ht hf rfl rfl hm hs y⟩
  have h3 : f ≠ t := by
    intro e
    have := hd t ht
    rw [e] at hm
    omega
  rw [y.1, qj_un (by omega)]
  exact hd x hx
theorem qj_I_make {r : Nat} {sk a : Int32} {sn' : Nat → Nat} (h : qj_I m so ar sn mb ch kn cv la ls) (hr : r < 3) (hm : m < 48) (ha : sk = 0 ∨ sk = 1 → ∃ e, e < 8 ∧ a = nI e)
    (hs : qj_Fill (3 * m) (fun q => kn (3 * r + q)) sn 3 sn') (y : qj_AP (upd so m sk) (upd ar m a) sn' kn cv la ls r m r (mb r + 1) kn' cv' la' ls') :
    qj_I (m + 1) (upd so m sk) (upd ar m a) sn' (qj_u mb r (mb r + 1)) (qj_u ch (49 * r + (mb r + 1)) m) kn' cv' la' ls' := by
  have hkn := fun x o (hx : x < 3) (ho : o < 3) => qj_I_kn h hx ho
  obtain ⟨⟨hL1, hL2, hL3, hL4⟩, ⟨bs, bk, bc, bl, bt⟩, hd, hR⟩ := h
  have hmr := hL2 r hr
  have bs' : ∀ k, sn' k ≤ 48 := qj_Fle hs (fun q _ => bk _) bs
  refine ⟨⟨by omega, fun o ho => ?_, fun o n ho h1 h2 => ?_, fun c hc hz => ?_⟩, qj_BD_ap ⟨bs', bk, bc, bl, bt⟩ (by omega) y, fun x hx => ?_, qj_RR_ap (fun x hx => ?_) hr hr (by rw [hd r hr]) qj_us (by rw [qj_us]; exact Nat.le_refl _) (fun q hq => ?_) y⟩
  · by_cases z : o = r
    · rw [z, qj_us]
      omega
    · rw [qj_un z]
      have := hL2 o ho
      omega
  · by_cases g : 49 * o + n = 49 * r + (mb r + 1)
    · rw [g, qj_us]
      omega
    · rw [qj_un g]
      have h3 : n ≤ mb o := by
        by_cases z : o = r
        · rw [z, qj_us] at h2
          rw [z] at g ⊢
          omega
        · rw [qj_un z] at h2
          exact h2
      have := hL3 o n ho h1 h3
      omega
  · by_cases z : c = m
    · rw [z, pk_us] at hz
      rw [z, pk_us]
      exact ha hz
    · rw [pk_un z] at hz
      rw [pk_un z]
      exact hL4 c (by omega) hz
  · rw [y.1]
    by_cases z : x = r
    · rw [z, qj_us, qj_us]
    · rw [qj_un (by omega), qj_un z]
      exact hd x hx
  · refine qj_R_log (hR x hx) (fun q hq => ?_) (fun q n hq h1 h2 => ?_)
    · by_cases z : q = r
      · rw [z, qj_us]
        omega
      · rw [qj_un z]
        exact Nat.le_refl _
    · have h2' : n ≤ kn (3 * x + q) := h2
      have h3 := hkn x q hx hq
      have h4 := hL3 q n hq h1 (by omega)
      have h5 := hL2 q hq
      have h6 : 49 * q + n ≠ 49 * r + (mb r + 1) := by
        intro g
        by_cases z : q = r
        · rw [z] at g h3 h2'
          omega
        · omega
      refine ⟨qj_un h6, pk_un (by omega), pk_un (by omega), fun o ho => qj_Fo hs (by omega)⟩
  · rw [hs.1 q hq]
    exact Nat.le_refl _
/-! the methods, over the invariant -/
theorem qj_W_sync {post : Int32 → St1 → Prop} {f t : Nat} (h : qj_I m so ar sn mb ch kn cv la ls) (hf : f < 3) (ht : t < 3)
    (H0 : f = t → post 0 (qj_S m so ar sn mb ch am kn cv la ls))
    (H : f ≠ t → ∀ kn' cv' la' ls', qj_SY kn cv la ls f t kn' cv' la' ls' → qj_I m so ar sn mb ch kn' cv' la' ls' → post 0 (qj_S m so ar sn mb ch am kn' cv' la' ls')) :
    wpX_sync post (qj_S m so ar sn mb ch am kn cv la ls) (nI f) (nI t) :=
  qj_sync hf ht h.2.1.2.1 h.2.1.2.2.1 h.2.1.2.2.2.1 h.2.1.2.2.2.2 H0 (fun e kn' cv' la' ls' y => H e kn' cv' la' ls' y (qj_I_sync h hf ht e y))
theorem qj_W_make {post : Int32 → St1 → Prop} {r : Nat} {sk a : Int32} (h : qj_I m so ar sn mb ch kn cv la ls) (hr : r < 3) (ha : sk = 0 ∨ sk = 1 → ∃ e, e < 8 ∧ a = nI e)
    (H0 : ¬ m < 48 → post (-1) (qj_S m so ar sn mb ch am kn cv la ls))
    (H : m < 48 → ∀ sn' am' kn' cv' la' ls', qj_Fill (3 * m) (fun q => kn (3 * r + q)) sn 3 sn' → qj_AP (upd so m sk) (upd ar m a) sn' kn cv la ls r m r (mb r + 1) kn' cv' la' ls' →
      qj_I (m + 1) (upd so m sk) (upd ar m a) sn' (qj_u mb r (mb r + 1)) (qj_u ch (49 * r + (mb r + 1)) m) kn' cv' la' ls' →
      post (nI (m + 1)) (qj_S (m + 1) (upd so m sk) (upd ar m a) sn' (qj_u mb r (mb r + 1)) (qj_u ch (49 * r + (mb r + 1)) m) am' kn' cv' la' ls')) :
    wpX_make post (qj_S m so ar sn mb ch am kn cv la ls) (nI r) sk a :=
  qj_make hr h.1.1 (h.1.2.1 r hr) h.2.1.1 h.2.1.2.1 h.2.1.2.2.1 h.2.1.2.2.2.1 h.2.1.2.2.2.2 ha H0 (fun hm sn' am' kn' cv' la' ls' hs y => H hm sn' am' kn' cv' la' ls' hs y (qj_I_make h hr hm ha hs y))
theorem qj_W_deliver {post : Int32 → St1 → Prop} {f t : Nat} (h : qj_I m so ar sn mb ch kn cv la ls) (hf : f < 3) (ht : t < 3)
    (H0 : ¬ (kn (3 * t + f) + 1 ≤ mb f ∧ ∀ q, q < 3 → sn (3 * ch (49 * f + (kn (3 * t + f) + 1)) + q) ≤ kn (3 * t + q)) → ∀ v, post v (qj_S m so ar sn mb ch am kn cv la ls))
    (H : ∀ kn' cv' la' ls', qj_AP so ar sn kn cv la ls t (ch (49 * f + (kn (3 * t + f) + 1))) f (kn (3 * t + f) + 1) kn' cv' la' ls' → qj_I m so ar sn mb ch kn' cv' la' ls' → post 0 (qj_S m so ar sn mb ch am kn' cv' la' ls')) :
    wpX_deliver post (qj_S m so ar sn mb ch am kn cv la ls) (nI f) (nI t) := by
  have h1 := h.1.1
  have h2 := h.1.2.1 f hf
  have h3 : kn (3 * t + f) + 1 ≤ mb f → ch (49 * f + (kn (3 * t + f) + 1)) < m := fun z => h.1.2.2.1 f _ hf (by omega) z
  exact qj_deliver hf ht (by omega) h.2.1.1 h.2.1.2.1 h.2.1.2.2.1 h.2.1.2.2.2.1 h.2.1.2.2.2.2 (fun z => by have := h3 z; omega) (fun z => h.1.2.2.2 _ (h3 z)) H0
    (fun hm hs kn' cv' la' ls' y => H kn' cv' la' ls' y (qj_I_deliver h hf ht hm hs y))
theorem qj_W_alike {post : Int32 → Prop} {r s : Nat} (h : qj_I m so ar sn mb ch kn cv la ls) (hr : r < 3) (hs : s < 3) (e : ∀ q, q < 3 → kn (3 * r + q) = kn (3 * s + q)) (H : post 1) : wpL_alike post (qj_S m so ar sn mb ch am kn cv la ls) (nI r) (nI s) :=
  qj_alike hr hs h.2.1.2.1 h.2.1.2.2.1 h.2.1.2.2.2.1 h.2.1.2.2.2.2 (qj_I_hc h) (qj_I_eq h hr hs e) H
end
end
section
section
variable {so ar : Nat → Int32} {sn kn cv la ls kn' cv' la' ls' : Nat → Nat}
/-! what the relations say of one place -/
theorem qj_AP_add {r c o n e : Nat} (h0 : so c = 0) (h1 : ar c = nI e) (he : e < 8) (ho : o < 3) (y : qj_AP so ar sn kn cv la ls r c o n kn' cv' la' ls') : la' (24 * r + 3 * e + o) = n := by
  rw [Nat.add_assoc, y.2.2.1.1 (3 * e + o) (by omega)]
  unfold qj_gD
  rw [if_pos ⟨⟨h0, by rw [h1, show (3 * e + o) / 3 = e by omega]⟩, by omega⟩]
theorem qj_AP_rem {r c o n e q : Nat} (h1 : so c = 1) (h2 : ar c = nI e) (he : e < 8) (hq : q < 3) (y : qj_AP so ar sn kn cv la ls r c o n kn' cv' la' ls') : la' (24 * r + 3 * e + q) = qj_dr (la (24 * r + 3 * e + q)) (sn (3 * c + q)) := by
  rw [Nat.add_assoc, y.2.2.1.1 (3 * e + q) (by omega)]
  unfold qj_gD
  rw [if_neg (fun x => absurd (h1.symm.trans x.1.1) (by decide)), if_pos (Or.inl ⟨h1, by rw [h2, show (3 * e + q) / 3 = e by omega]⟩), show (3 * e + q) % 3 = q by omega]
theorem qj_AP_oth {r c o n e q x : Nat} (hx : x < 3) (hr : r < 3) (hxr : x ≠ r) (he : e < 8) (hq : q < 3) (y : qj_AP so ar sn kn cv la ls r c o n kn' cv' la' ls') : la' (24 * x + 3 * e + q) = la (24 * x + 3 * e + q) := qj_Fo y.2.2.1 (by omega)
theorem qj_sv0 {k v k' : Nat} (h : k < v) : qj_sv 0 k v k' = v := by
  unfold qj_sv
  rw [if_neg (by omega), if_neg (by omega), if_pos h]
  omega
theorem qj_hv1 {f : Nat → Nat} {b q : Nat} (hq : q < 3) (h : 0 < f (b + q)) : qj_hv (f (b + 0)) (f (b + 1)) (f (b + 2)) = 1 := by
  unfold qj_hv
  rcases (show q = 0 ∨ q = 1 ∨ q = 2 by omega) with e | e | e
  · rw [e] at h
    rw [if_pos (Or.inl h)]
  · rw [e] at h
    rw [if_pos (Or.inr (Or.inl h))]
  · rw [e] at h
    rw [if_pos (Or.inr (Or.inr h))]
theorem qj_hv0 {f : Nat → Nat} {b : Nat} (h : ∀ q, q < 3 → f (b + q) = 0) : qj_hv (f (b + 0)) (f (b + 1)) (f (b + 2)) = 0 := by
  unfold qj_hv
  rw [h 0 (by omega), h 1 (by omega), h 2 (by omega)]
  exact if_neg (by omega)
end
/-- four syncs: all know the same -/
theorem qj_four {kn cv la ls k1 c1 l1 t1 k2 c2 l2 t2 k3 c3 l3 t3 k4 c4 l4 t4 : Nat → Nat} (y1 : qj_SY kn cv la ls 0 1 k1 c1 l1 t1) (y2 : qj_SY k1 c1 l1 t1 1 2 k2 c2 l2 t2) (y3 : qj_SY k2 c2 l2 t2 2 1 k3 c3 l3 t3) (y4 : qj_SY k3 c3 l3 t3 2 0 k4 c4 l4 t4) :
    ∀ r q, r < 3 → q < 3 → k4 (3 * r + q) = max (max (kn (3 * 0 + q)) (kn (3 * 1 + q))) (kn (3 * 2 + q)) := by
  intro r q hr hq
  have a0 : k1 (3 * 0 + q) = kn (3 * 0 + q) := qj_Fo y1.1 (by omega)
  have a1 : k1 (3 * 1 + q) = max (kn (3 * 0 + q)) (kn (3 * 1 + q)) := y1.1.1 q hq
  have a2 : k1 (3 * 2 + q) = kn (3 * 2 + q) := qj_Fo y1.1 (by omega)
  have b0 : k2 (3 * 0 + q) = k1 (3 * 0 + q) := qj_Fo y2.1 (by omega)
  have b1 : k2 (3 * 1 + q) = k1 (3 * 1 + q) := qj_Fo y2.1 (by omega)
  have b2 : k2 (3 * 2 + q) = max (k1 (3 * 1 + q)) (k1 (3 * 2 + q)) := y2.1.1 q hq
  have c0 : k3 (3 * 0 + q) = k2 (3 * 0 + q) := qj_Fo y3.1 (by omega)
  have c1 : k3 (3 * 1 + q) = max (k2 (3 * 2 + q)) (k2 (3 * 1 + q)) := y3.1.1 q hq
  have c2 : k3 (3 * 2 + q) = k2 (3 * 2 + q) := qj_Fo y3.1 (by omega)
  have d0 : k4 (3 * 0 + q) = max (k3 (3 * 2 + q)) (k3 (3 * 0 + q)) := y4.1.1 q hq
  have d1 : k4 (3 * 1 + q) = k3 (3 * 1 + q) := qj_Fo y4.1 (by omega)
  have d2 : k4 (3 * 2 + q) = k3 (3 * 2 + q) := qj_Fo y4.1 (by omega)
  clear y1 y2 y3 y4
  rcases (show r = 0 ∨ r = 1 ∨ r = 2 by omega) with e | e | e
  · rw [e, d0, c2, c0, b2, b0, a0, a1, a2]
    omega
  · rw [e, d1, c1, b2, b1, a1, a2]
    omega
  · rw [e, d2, c2, b2, a1, a2]
section
variable {m : Nat} {so ar so5 ar5 so6 ar6 : Nat → Int32} {sn mb ch kn cv la ls sn5 kn5 cv5 la5 ls5 sn6 kn6 cv6 la6 ls6 kn7 cv7 la7 ls7 kn8 cv8 la8 ls8 : Nat → Nat} {a b e : Nat}
/-- an add at a, then a remove at b, both knowing the same before -/
theorem qj_cf1 {nb : Nat} (h : qj_I m so ar sn mb ch kn cv la ls) (ha : a < 3) (hb : b < 3) (hab : a ≠ b) (he : e < 8) (hrow : ∀ q, q < 3 → kn (3 * a + q) = kn (3 * b + q))
    (z0 : so5 m = 0) (z1 : ar5 m = nI e) (z2 : so6 (m + 1) = 1) (z3 : ar6 (m + 1) = nI e)
    (y5 : qj_AP so5 ar5 sn5 kn cv la ls a m a (mb a + 1) kn5 cv5 la5 ls5) (s6 : qj_Fill (3 * (m + 1)) (fun q => kn5 (3 * b + q)) sn5 3 sn6) (hnb : nb = mb b + 1)
    (y6 : qj_AP so6 ar6 sn6 kn5 cv5 la5 ls5 b (m + 1) b nb kn6 cv6 la6 ls6) :
    la6 (24 * a + 3 * e + a) = kn (3 * b + a) + 1 ∧ (∀ q, q < 3 → la6 (24 * b + 3 * e + q) = 0) ∧ (∀ q, q < 3 → kn6 (3 * b + q) = if q = b then kn (3 * b + b) + 1 else kn (3 * b + q)) ∧
    (∀ q, q < 3 → kn6 (3 * a + q) = if q = a then kn (3 * b + a) + 1 else kn (3 * b + q)) ∧ (∀ q, q < 3 → sn6 (3 * (m + 1) + q) = kn (3 * b + q)) := by
  have da := h.2.2.1 a ha
  have db := h.2.2.1 b hb
  have ra := hrow a ha
  have kb : ∀ q, q < 3 → kn5 (3 * b + q) = kn (3 * b + q) := by
    intro q hq
    rw [y5.1]
    exact qj_un (by omega)
  have os : ∀ q, q < 3 → sn6 (3 * (m + 1) + q) = kn (3 * b + q) := by
    intro q hq
    rw [s6.1 q hq]
    exact kb q hq
  refine ⟨?_, fun q hq => ?_, fun q hq => ?_, fun q hq => ?_, os⟩
  · rw [qj_AP_oth ha hb hab he ha y6, qj_AP_add z0 z1 he ha y5]
    omega
  · rw [qj_AP_rem z2 z3 he hq y6, qj_AP_oth hb ha (Ne.symm hab) he hq y5, os q hq]
    exact qj_dr0 (qj_I_la h hb he hq)
  · rw [y6.1]
    by_cases g : q = b
    · rw [g, qj_us, if_pos rfl]
      omega
    · rw [qj_un (by omega), if_neg g]
      exact kb q hq
  · rw [y6.1, qj_un (by omega), y5.1]
    by_cases g : q = a
    · rw [g, qj_us, if_pos rfl]
      omega
    · rw [qj_un (by omega), if_neg g]
      exact hrow q hq
/-- then a's state goes to b -/
theorem qj_cf2 (ha : a < 3) (hb : b < 3) (hab : a ≠ b) (he : e < 8) (o1 : la6 (24 * a + 3 * e + a) = kn (3 * b + a) + 1) (o2 : ∀ q, q < 3 → la6 (24 * b + 3 * e + q) = 0)
    (o3 : ∀ q, q < 3 → kn6 (3 * b + q) = if q = b then kn (3 * b + b) + 1 else kn (3 * b + q)) (o4 : ∀ q, q < 3 → kn6 (3 * a + q) = if q = a then kn (3 * b + a) + 1 else kn (3 * b + q))
    (y : qj_SY kn6 cv6 la6 ls6 a b kn7 cv7 la7 ls7) :
    la7 (24 * a + 3 * e + a) = kn (3 * b + a) + 1 ∧ la7 (24 * b + 3 * e + a) = kn (3 * b + a) + 1 ∧ (∀ q, q < 3 → kn7 (3 * a + q) = if q = a then kn (3 * b + a) + 1 else kn (3 * b + q)) ∧
    (∀ q, q < 3 → kn7 (3 * b + q) = if q = a then kn (3 * b + a) + 1 else if q = b then kn (3 * b + b) + 1 else kn (3 * b + q)) := by
  refine ⟨?_, ?_, fun q hq => ?_, fun q hq => ?_⟩
  · rw [qj_Fo y.2.2.1 (by omega)]
    exact o1
  · rw [Nat.add_assoc, y.2.2.1.1 (3 * e + a) (by omega)]
    unfold qj_gA
    rw [← Nat.add_assoc, ← Nat.add_assoc, o1, o2 a ha, show (3 * e + a) % 3 = a by omega, o3 a ha, if_neg hab]
    exact qj_sv0 (by omega)
  · rw [qj_Fo y.1 (by omega)]
    exact o4 q hq
  · rw [y.1.1 q hq]
    unfold qj_gM
    rw [o3 q hq, o4 q hq]
    by_cases g : q = a
    · rw [if_pos g, if_neg (by omega), if_pos g, g]
      omega
    · rw [if_neg g, if_neg g]
      by_cases g2 : q = b
      · rw [if_pos g2, g2]
        omega
      · rw [if_neg g2]
        omega
/-- then b's remove comes to a -/
theorem qj_cf3 {c n : Nat} (ha : a < 3) (hb : b < 3) (hab : a ≠ b) (he : e < 8) (o1 : la7 (24 * a + 3 * e + a) = kn (3 * b + a) + 1) (o2 : la7 (24 * b + 3 * e + a) = kn (3 * b + a) + 1)
    (o3 : ∀ q, q < 3 → kn7 (3 * a + q) = if q = a then kn (3 * b + a) + 1 else kn (3 * b + q)) (o4 : ∀ q, q < 3 → kn7 (3 * b + q) = if q = a then kn (3 * b + a) + 1 else if q = b then kn (3 * b + b) + 1 else kn (3 * b + q))
    (z2 : so6 c = 1) (z3 : ar6 c = nI e) (hs : ∀ q, q < 3 → sn6 (3 * c + q) = kn (3 * b + q)) (hn : n = kn (3 * b + b) + 1) (y : qj_AP so6 ar6 sn6 kn7 cv7 la7 ls7 a c b n kn8 cv8 la8 ls8) :
    la8 (24 * a + 3 * e + a) = kn (3 * b + a) + 1 ∧ la8 (24 * b + 3 * e + a) = kn (3 * b + a) + 1 ∧ (∀ q, q < 3 → kn8 (3 * a + q) = kn8 (3 * b + q)) := by
  refine ⟨?_, ?_, fun q hq => ?_⟩
  · rw [qj_AP_rem z2 z3 he ha y, o1, hs a ha]
    exact qj_drk (by omega)
  · rw [qj_AP_oth hb ha (Ne.symm hab) he ha y]
    exact o2
  · rw [y.1, qj_un (show 3 * b + q ≠ 3 * a + b by omega), o4 q hq]
    by_cases g : q = b
    · rw [g, qj_us, hn, if_neg (Ne.symm hab), if_pos rfl]
    · rw [qj_un (by omega), o3 q hq, if_neg g]
end
section
variable {m : Nat} {so ar : Nat → Int32} {sn mb ch : Nat → Nat} {am : Nat → Int32} {kn cv la ls : Nat → Nat}
theorem qj_W_add {post : Int32 → St1 → Prop} {r e : Nat} {x : Int32} (h : qj_I m so ar sn mb ch kn cv la ls) (hr : r < 3) (he : e < 8) (hx : x &&& 7 = nI e)
    (H0 : ¬ m < 48 → post (-1) (qj_S m so ar sn mb ch am kn cv la ls))
    (H : m < 48 → ∀ sn' am' kn' cv' la' ls', qj_Fill (3 * m) (fun q => kn (3 * r + q)) sn 3 sn' → qj_AP (upd so m 0) (upd ar m (nI e)) sn' kn cv la ls r m r (mb r + 1) kn' cv' la' ls' →
      qj_I (m + 1) (upd so m 0) (upd ar m (nI e)) sn' (qj_u mb r (mb r + 1)) (qj_u ch (49 * r + (mb r + 1)) m) kn' cv' la' ls' →
      post (nI (m + 1)) (qj_S (m + 1) (upd so m 0) (upd ar m (nI e)) sn' (qj_u mb r (mb r + 1)) (qj_u ch (49 * r + (mb r + 1)) m) am' kn' cv' la' ls')) :
    wpX_add post (qj_S m so ar sn mb ch am kn cv la ls) (nI r) x := by
  unfold wpX_add
  dsimp only
  rw [hx]
  exact qj_W_make h hr (fun _ => ⟨e, he, rfl⟩) H0 H
theorem qj_W_remove {post : Int32 → St1 → Prop} {r e : Nat} {x : Int32} (h : qj_I m so ar sn mb ch kn cv la ls) (hr : r < 3) (he : e < 8) (hx : x &&& 7 = nI e)
    (H0 : ¬ m < 48 → post (-1) (qj_S m so ar sn mb ch am kn cv la ls))
    (H : m < 48 → ∀ sn' am' kn' cv' la' ls', qj_Fill (3 * m) (fun q => kn (3 * r + q)) sn 3 sn' → qj_AP (upd so m 1) (upd ar m (nI e)) sn' kn cv la ls r m r (mb r + 1) kn' cv' la' ls' →
      qj_I (m + 1) (upd so m 1) (upd ar m (nI e)) sn' (qj_u mb r (mb r + 1)) (qj_u ch (49 * r + (mb r + 1)) m) kn' cv' la' ls' →
      post (nI (m + 1)) (qj_S (m + 1) (upd so m 1) (upd ar m (nI e)) sn' (qj_u mb r (mb r + 1)) (qj_u ch (49 * r + (mb r + 1)) m) am' kn' cv' la' ls')) :
    wpX_remove post (qj_S m so ar sn mb ch am kn cv la ls) (nI r) x := by
  unfold wpX_remove
  dsimp only
  rw [hx]
  exact qj_W_make h hr (fun _ => ⟨e, he, rfl⟩) H0 H
theorem qj_met {post : Int32 → St1 → Prop} {a b e : Nat} {x : Int32} (h : qj_I m so ar sn mb ch kn cv la ls) (ha : a < 3) (hb : b < 3) (he : e < 8) (hx : x &&& 7 = nI e)
    (H : ∀ m so ar sn mb ch am kn cv la ls, qj_I m so ar sn mb ch kn cv la ls → post 1 (qj_S m so ar sn mb ch am kn cv la ls)) : wpL_met post (qj_S m so ar sn mb ch am kn cv la ls) (nI a) (nI b) x := by
  unfold wpL_met
  dsimp only
  refine qj_W_sync (f := 0) (t := 1) h (by omega) (by omega) (fun z => absurd z (by omega)) (fun _ k1 c1 l1 t1 y1 h1 => br_t rfl ?_)
  refine qj_W_sync (f := 1) (t := 2) h1 (by omega) (by omega) (fun z => absurd z (by omega)) (fun _ k2 c2 l2 t2 y2 h2 => br_t rfl ?_)
  refine qj_W_sync (f := 2) (t := 1) h2 (by omega) (by omega) (fun z => absurd z (by omega)) (fun _ k3 c3 l3 t3 y3 h3 => br_t rfl ?_)
  refine qj_W_sync (f := 2) (t := 0) h3 (by omega) (by omega) (fun z => absurd z (by omega)) (fun _ k4 c4 l4 t4 y4 h4 => br_t rfl ?_)
  have h44 := qj_four y1 y2 y3 y4
  have hrow : ∀ r s, r < 3 → s < 3 → ∀ q, q < 3 → k4 (3 * r + q) = k4 (3 * s + q) := fun r s hr hs q hq => (h44 r q hr hq).trans (h44 s q hs hq).symm
  clear h44 y1 y2 y3 y4 h1 h2 h3 h
  refine qj_W_alike (r := 0) (s := 1) h4 (by omega) (by omega) (hrow 0 1 (by omega) (by omega)) (br_f qj_n10 ?_)
  refine qj_W_alike (r := 0) (s := 2) h4 (by omega) (by omega) (hrow 0 2 (by omega) (by omega)) (br_f qj_n10 ?_)
  refine qj_W_add h4 ha he hx (fun z => ?_) (fun hm sn5 am5 kn5 cv5 la5 ls5 s5 y5 h5 => ?_)
  · refine qj_W_remove h4 hb he hx (fun _ => ?_) (fun hm => absurd hm z)
    exact br_c (fun _ => H _ _ _ _ _ _ _ _ _ _ _ h4) (fun _ => br_t (by decide) (H _ _ _ _ _ _ _ _ _ _ _ h4))
  · refine qj_W_remove h5 hb he hx (fun z => ?_) (fun hm6 sn6 am6 kn6 cv6 la6 ls6 s6 y6 h6 => ?_)
    · exact br_c (fun _ => H _ _ _ _ _ _ _ _ _ _ _ h5) (fun _ => br_f (nI_pos (by omega)) (br_f (by decide) (H _ _ _ _ _ _ _ _ _ _ _ h5)))
    · refine pk_eq a b (fun _ => H _ _ _ _ _ _ _ _ _ _ _ h6) (fun hab => br_f (nI_pos (by omega)) (br_t (nI_pos' (by omega)) ?_))
      have hba : b ≠ a := Ne.symm hab
      have hmb5 : qj_u mb a (mb a + 1) b = mb b := qj_un hba
      obtain ⟨o1, o2, o3, o4, o5⟩ := qj_cf1 h4 ha hb hab he (hrow a b ha hb) pk_us pk_us pk_us pk_us y5 s6 (by rw [hmb5]) y6
      refine qj_has ha he hx h6.2.1.2.2.2.1 (br_t (qj_hv1 (f := la6) (q := a) ha (by omega)) ?_)
      refine qj_has hb he hx h6.2.1.2.2.2.1 (br_t (qj_hv0 (f := la6) o2) ?_)
      refine qj_W_sync h6 ha hb (fun z => absurd z hab) (fun _ kn7 cv7 la7 ls7 y7 h7 => ?_)
      obtain ⟨p1, p2, p3, p4⟩ := qj_cf2 (kn := k4) ha hb hab he o1 o2 o3 o4 y7
      have hkb : kn7 (3 * a + b) = mb b := by
        rw [p3 b hb, if_neg hba]
        exact h4.2.2.1 b hb
      have hcc : qj_u (qj_u ch (49 * a + (mb a + 1)) m) (49 * b + (qj_u mb a (mb a + 1) b + 1)) (m + 1) (49 * b + (kn7 (3 * a + b) + 1)) = m + 1 := by
        rw [hkb, hmb5]
        exact qj_us
      refine qj_W_deliver h7 hb ha (fun z => absurd ?_ z) (fun kn8 cv8 la8 ls8 y8 h8 => ?_)
      · refine ⟨by rw [hkb, qj_us, hmb5]; exact Nat.le_refl _, fun q hq => ?_⟩
        rw [hcc, o5 q hq, p3 q hq]
        split
        · rename_i g
          rw [g]
          omega
        · exact Nat.le_refl _
      · obtain ⟨w1, w2, w3⟩ := qj_cf3 (kn := k4) ha hb hab he p1 p2 p3 p4 (by rw [hcc]; exact pk_us) (by rw [hcc]; exact pk_us) (by rw [hcc]; exact o5) (by rw [hkb, h4.2.2.1 b hb]) y8
        refine br_t rfl (qj_has ha he hx h8.2.1.2.2.2.1 (br_t (qj_hv1 (f := la8) (q := a) ha (by omega)) ?_))
        refine qj_has hb he hx h8.2.1.2.2.2.1 (br_t (qj_hv1 (f := la8) (q := a) ha (by omega)) ?_)
        exact qj_W_alike h8 ha hb w3 (br_f qj_n10 (H _ _ _ _ _ _ _ _ _ _ _ h8))
end
end
section
section
variable {m : Nat} {so ar : Nat → Int32} {sn mb ch : Nat → Nat} {am : Nat → Int32} {kn cv la ls : Nat → Nat}
theorem qj_and7 (x : Int32) : ∃ e, e < 8 ∧ x &&& 7 = nI e := pk_andE x 3 (by decide)
theorem qj_mod3 (x : Int32) : ∃ a, a < 3 ∧ (x &&& 255) - (x &&& 255) / 3 * 3 = nI a := by
  obtain ⟨j, hj, e⟩ := pk_andE x (m := 255) 8 (by decide)
  refine ⟨j % 3, by omega, ?_⟩
  rw [e]
  exact pk_rem (a := j) (d := 3) (by omega) (by omega) (by omega)
theorem qj_L_make {post : Int32 → St1 → Prop} {r : Nat} {sk a : Int32} (h : qj_I m so ar sn mb ch kn cv la ls) (hr : r < 3) (ha : sk = 0 ∨ sk = 1 → ∃ e, e < 8 ∧ a = nI e)
    (H : ∀ v m so ar sn mb ch am kn cv la ls, qj_I m so ar sn mb ch kn cv la ls → post v (qj_S m so ar sn mb ch am kn cv la ls)) : wpX_make post (qj_S m so ar sn mb ch am kn cv la ls) (nI r) sk a :=
  qj_W_make h hr ha (fun _ => H _ _ _ _ _ _ _ _ _ _ _ _ h) (fun _ sn' am' kn' cv' la' ls' _ _ h' => H _ _ _ _ _ _ _ _ _ _ _ _ h')
theorem qj_L_add {post : Int32 → St1 → Prop} {r : Nat} {x : Int32} (h : qj_I m so ar sn mb ch kn cv la ls) (hr : r < 3)
    (H : ∀ v m so ar sn mb ch am kn cv la ls, qj_I m so ar sn mb ch kn cv la ls → post v (qj_S m so ar sn mb ch am kn cv la ls)) : wpX_add post (qj_S m so ar sn mb ch am kn cv la ls) (nI r) x := by
  unfold wpX_add
  dsimp only
  exact qj_L_make h hr (fun _ => qj_and7 x) H
theorem qj_L_remove {post : Int32 → St1 → Prop} {r : Nat} {x : Int32} (h : qj_I m so ar sn mb ch kn cv la ls) (hr : r < 3)
    (H : ∀ v m so ar sn mb ch am kn cv la ls, qj_I m so ar sn mb ch kn cv la ls → post v (qj_S m so ar sn mb ch am kn cv la ls)) : wpX_remove post (qj_S m so ar sn mb ch am kn cv la ls) (nI r) x := by
  unfold wpX_remove
  dsimp only
  exact qj_L_make h hr (fun _ => qj_and7 x) H
theorem qj_L_assign {post : Int32 → St1 → Prop} {r : Nat} {x : Int32} (h : qj_I m so ar sn mb ch kn cv la ls) (hr : r < 3)
    (H : ∀ v m so ar sn mb ch am kn cv la ls, qj_I m so ar sn mb ch kn cv la ls → post v (qj_S m so ar sn mb ch am kn cv la ls)) : wpX_assign post (qj_S m so ar sn mb ch am kn cv la ls) (nI r) x := by
  unfold wpX_assign
  dsimp only
  exact qj_L_make h hr (fun z => absurd z (by decide)) H
theorem qj_L_count {post : Int32 → St1 → Prop} {r : Nat} {x : Int32} (h : qj_I m so ar sn mb ch kn cv la ls) (hr : r < 3)
    (H : ∀ v m so ar sn mb ch am kn cv la ls, qj_I m so ar sn mb ch kn cv la ls → post v (qj_S m so ar sn mb ch am kn cv la ls)) : wpX_count post (qj_S m so ar sn mb ch am kn cv la ls) (nI r) x := by
  unfold wpX_count
  dsimp only
  exact qj_L_make h hr (fun z => absurd z (by decide)) H
theorem qj_L_reset {post : Int32 → St1 → Prop} {r : Nat} (h : qj_I m so ar sn mb ch kn cv la ls) (hr : r < 3)
    (H : ∀ v m so ar sn mb ch am kn cv la ls, qj_I m so ar sn mb ch kn cv la ls → post v (qj_S m so ar sn mb ch am kn cv la ls)) : wpX_reset post (qj_S m so ar sn mb ch am kn cv la ls) (nI r) := by
  unfold wpX_reset
  dsimp only
  exact qj_L_make h hr (fun z => absurd z (by decide)) H
theorem qj_154 {post : Int32 → Prop} {L : Nat} {xs : Nat → Int32} {J10 : Int32 → Int32 → (Nat → Int32) → (Nat → Int32) → (Nat → Int32) → (Nat → Int32) → (Nat → Int32) → (Nat → Int32) → (Nat → Int32) → (Nat → Int32) → (Nat → Int32) → (Nat → Int32) → Prop} {j a b kc ks : Nat} {x3 x6 : Int32}
    (h : qj_I m so ar sn mb ch kn cv la ls) (ha : a < 3) (hb : b < 3)
    (HJ : ∀ m so ar sn mb ch am kn cv la ls, qj_I m so ar sn mb ch kn cv la ls → J10 (nI (j + 4)) (nI m) so ar (qj_v sn) (qj_v mb) (qj_v ch) am (qj_v kn) (qj_v cv) (qj_v la) (qj_v ls)) :
    wL_law_154 post L xs J10 (nI j) x3 (nI a) (nI b) x6 kc ks (nI m) so ar (qj_v sn) (qj_v mb) (qj_v ch) am (qj_v kn) (qj_v cv) (qj_v la) (qj_v ls) := by
  unfold wL_law_154
  refine br_c (fun _ => br_c (fun _ => ?_) (fun _ => ?_)) (fun _ => ?_)
  · obtain ⟨e, he, hx⟩ := qj_and7 x6
    exact qj_met h ha hb he hx (fun m so ar sn mb ch am kn cv la ls h' => br_f qj_n10 (nm_r (qj_i4 j) (HJ _ _ _ _ _ _ _ _ _ _ _ h')))
  · exact qj_W_sync h ha hb (fun _ => nm_r (qj_i4 j) (HJ _ _ _ _ _ _ _ _ _ _ _ h)) (fun _ kn' cv' la' ls' _ h' => nm_r (qj_i4 j) (HJ _ _ _ _ _ _ _ _ _ _ _ h'))
  · exact qj_W_deliver h ha hb (fun _ _ => nm_r (qj_i4 j) (HJ _ _ _ _ _ _ _ _ _ _ _ h)) (fun kn' cv' la' ls' _ h' => nm_r (qj_i4 j) (HJ _ _ _ _ _ _ _ _ _ _ _ h'))
end
theorem qj_loop {L kc ks : Nat} {xs : Nat → Int32} (hL : L ≤ 260) : ∀ (n j m : Nat) (so ar : Nat → Int32) (sn mb ch : Nat → Nat) (am : Nat → Int32) (kn cv la ls : Nat → Nat), j ≤ L → L - j < n → qj_I m so ar sn mb ch kn cv la ls →
    wL_law_10 (fun r => r = 1) L xs kc ks n (nI j) (nI m) so ar (qj_v sn) (qj_v mb) (qj_v ch) am (qj_v kn) (qj_v cv) (qj_v la) (qj_v ls) := by
  intro n
  induction n with
  | zero => exact fun j m so ar sn mb ch am kn cv la ls _ h _ => absurd h (by omega)
  | succ n ih =>
    intro j m so ar sn mb ch am kn cv la ls hj hn h
    refine pk_lt L (j + 4) (fun _ => ?_) (fun hj4 => ?_) (by rfl) (qj_i4 j)
    · exact qj_met (a := 0) (b := 1) (e := 2) h (by omega) (by omega) (by omega) (by decide) (fun _ _ _ _ _ _ _ _ _ _ _ _ => rfl)
    · have HJ : ∀ m so ar sn mb ch am kn cv la ls, qj_I m so ar sn mb ch kn cv la ls → wL_law_10 (fun r => r = 1) L xs kc ks n (nI (j + 4)) (nI m) so ar (qj_v sn) (qj_v mb) (qj_v ch) am (qj_v kn) (qj_v cv) (qj_v la) (qj_v ls) :=
        fun m so ar sn mb ch am kn cv la ls h' => ih (j + 4) m so ar sn mb ch am kn cv la ls (by omega) (by omega) h'
      rw [nI_1, qj_i2, qj_i33]
      obtain ⟨a, ha, ea⟩ := qj_mod3 (xs (nI (j + 1)).toNatClampNeg)
      obtain ⟨b, hb, eb⟩ := qj_mod3 (xs (nI (j + 2)).toNatClampNeg)
      refine ⟨vp_in_nI (by omega) (by omega), nm_e ⟨vp_in_nI (by omega) (by omega), by decide, nm_r ea ⟨vp_in_nI (by omega) (by omega), by decide, nm_r eb ⟨vp_in_nI (by omega) (by omega), nm_e ?_⟩⟩⟩⟩
      refine br_c (fun _ => br_c (fun _ => ?_) (fun _ => br_c (fun _ => br_c (fun _ => ?_) (fun _ => br_c (fun _ => br_c (fun _ => ?_) (fun _ => ?_)) (fun _ => ?_))) (fun _ => ?_))) (fun _ => ?_)
      · exact qj_L_remove h ha (fun _ m so ar sn mb ch am kn cv la ls h' => nm_r (qj_i4 j) (HJ _ _ _ _ _ _ _ _ _ _ _ h'))
      · exact qj_L_count h ha (fun _ m so ar sn mb ch am kn cv la ls h' => nm_r (qj_i4 j) (HJ _ _ _ _ _ _ _ _ _ _ _ h'))
      · exact qj_L_reset h ha (fun _ m so ar sn mb ch am kn cv la ls h' => nm_r (qj_i4 j) (HJ _ _ _ _ _ _ _ _ _ _ _ h'))
      · exact qj_154 h ha hb HJ
      · exact qj_154 h ha hb HJ
      · exact qj_L_assign h ha (fun _ m so ar sn mb ch am kn cv la ls h' => nm_r (qj_i4 j) (HJ _ _ _ _ _ _ _ _ _ _ _ h'))
      · exact qj_L_add h ha (fun _ m so ar sn mb ch am kn cv la ls h' => nm_r (qj_i4 j) (HJ _ _ _ _ _ _ _ _ _ _ _ h'))
theorem i_vc (xs : Nat → Int32) (L : Nat) (hL : L ≤ 260) : wpL_law (fun r => r = 1) L xs := by
  refine ⟨10, 636, by omega, by omega, ?_⟩
  unfold wpX_init
  refine ⟨by omega, by omega, by omega, by omega, by omega, by omega, by omega, by omega, by omega, by omega, by omega, by omega, by omega, by omega, by omega, by omega, by omega, by omega, by omega, by omega, ?_⟩
  exact ⟨L + 1, qj_loop hL (L + 1) 0 0 (fun _ => 0) (fun _ => 0) (fun _ => 0) (fun _ => 0) (fun _ => 0) (fun _ => 0) (fun _ => 0) (fun _ => 0) (fun _ => 0) (fun _ => 0) (by omega) (by omega) qj_I_0⟩
end
