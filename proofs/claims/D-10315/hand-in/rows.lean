section
/-! numbers: small masks, bytes -/
theorem tv_b8 : ∀ n, n < 128 → (nI n).toInt8.toInt32 = nI n := by decide +kernel
theorem tv_nar {n : Nat} (h : n < 128) : vp_nar .byte (nI n) = nI n := by rw [vp_nar_byte, tv_b8 n h]
theorem tv_and8 : ∀ a, a < 8 → ∀ b, b < 8 → (nI a &&& nI b = nI (a &&& b) ∧ a &&& b < 8) := by decide +kernel
theorem tv_bit8 : ∀ m, m < 8 → ∀ x, x < 3 → ((((nI m >>> (nI x &&& 31)) &&& 1) = 0) ↔ m.testBit x = false) := by decide +kernel
theorem tv_sh : ∀ x, x < 3 → (1 : Int32) <<< (nI x &&& 31) = nI (2 ^ x) := by decide +kernel
theorem tv_or8 : ∀ a, a < 8 → ∀ x, x < 3 → (nI a ||| nI (2 ^ x) = nI (a ||| 2 ^ x) ∧ a ||| 2 ^ x < 8) := by decide +kernel
theorem tv_p2 : ∀ x, x < 3 → ∀ y, y < 3 → ((2 ^ x).testBit y = true ↔ x = y) := by decide +kernel
theorem tv_p2lt : ∀ x, x < 3 → (2 ^ x < 8 ∧ 0 < 2 ^ x) := by decide +kernel
theorem tv_7 : ∀ x, x < 3 → (7 : Nat).testBit x = true := by decide +kernel
theorem tv_pick8 : ∀ m, m < 8 → 0 < m → ∃ x, x < 3 ∧ m.testBit x = true := by
  intro m hm h0
  by_cases h : m.testBit 0 = true
  · exact ⟨0, by omega, h⟩
  · by_cases h1 : m.testBit 1 = true
    · exact ⟨1, by omega, h1⟩
    · refine ⟨2, by omega, ?_⟩
      exact (by decide +kernel : ∀ m, m < 8 → 0 < m → ¬ m.testBit 0 = true → ¬ m.testBit 1 = true → m.testBit 2 = true) m hm h0 h h1
theorem tv_nz8 : ∀ m, m < 8 → ∀ x, x < 3 → m.testBit x = true → 0 < m := by decide +kernel
/-- a set of values below 3, bit by bit -/
def tv_mk (p : Nat → Bool) : Nat → Nat
  | 0 => 0
  | i + 1 => if p i = true then tv_mk p i ||| 2 ^ i else tv_mk p i
theorem tv_mk_lt (p : Nat → Bool) : ∀ i, i ≤ 3 → tv_mk p i < 8 := by
  intro i
  induction i with
  | zero => intro _; exact (by decide : 0 < 8)
  | succ i ih =>
    intro h
    have := ih (by omega)
    show (if p i = true then tv_mk p i ||| 2 ^ i else tv_mk p i) < 8
    split
    · exact (tv_or8 _ this i (by omega)).2
    · exact this
theorem tv_mk_bit (p : Nat → Bool) : ∀ x, x < 3 → (tv_mk p 3).testBit x = p x := by
  intro x hx
  have e : tv_mk p 3 = (if p 2 = true then (if p 1 = true then (if p 0 = true then 0 ||| 2 ^ 0 else 0) ||| 2 ^ 1 else (if p 0 = true then 0 ||| 2 ^ 0 else 0)) ||| 2 ^ 2 else (if p 1 = true then (if p 0 = true then 0 ||| 2 ^ 0 else 0) ||| 2 ^ 1 else (if p 0 = true then 0 ||| 2 ^ 0 else 0))) := rfl
  rw [e]
  have hx' : x = 0 ∨ x = 1 ∨ x = 2 := by omega
  cases h0 : p 0 <;> cases h1 : p 1 <;> cases h2 : p 2 <;> rcases hx' with rfl | rfl | rfl <;> simp only [h0, h1, h2] <;> decide
/-! truth tables -/
def tv_wn (t : Nat) : Nat := if t = 0 then 1 else if t < 4 then 2 else 0
def tv_not (l x : Nat) : Nat := if l = 2 then (if x = 0 then 2 else 0) else 2 - x
def tv_app (l t x y : Nat) : Nat := if t = 1 then (if y ≤ x then y else x) else if t = 2 then (if x ≤ y then y else x) else if l = 0 then (if 2 ≤ 2 - x + y then 2 else 2 - x + y) else if l = 1 then (if 2 - x ≤ y then y else 2 - x) else (if y < x then y else 2)
theorem tv_not_lt (l x : Nat) : tv_not l x < 3 := by
  unfold tv_not
  split
  · split <;> omega
  · omega
theorem tv_app_lt {l t x y : Nat} (hx : x < 3) (hy : y < 3) : tv_app l t x y < 3 := by
  unfold tv_app
  repeat' split
  all_goals omega
/-- the value of the formula at cell c under assignment a; se: the cell of the second part -/
def tv_V (l : Nat) (tk se : Nat → Nat) (a : Nat) (c : Nat) : Nat :=
  if h : 18 ≤ c then 0 else
  if 4 ≤ tk c then a / 3 ^ (tk c - 4) % 3 else
  if tk c = 0 then tv_not l (tv_V l tk se a (c + 1)) else
  tv_app l (tk c) (tv_V l tk se a (c + 1)) (if h2 : c < se c then tv_V l tk se a (se c) else 0)
termination_by 18 - c
theorem tv_V_let {l : Nat} {tk se : Nat → Nat} {a c : Nat} (hc : c < 18) (h : 4 ≤ tk c) : tv_V l tk se a c = a / 3 ^ (tk c - 4) % 3 := by
  rw [tv_V, dif_neg (by omega), if_pos h]
theorem tv_V_not {l : Nat} {tk se : Nat → Nat} {a c : Nat} (hc : c < 18) (h : tk c = 0) : tv_V l tk se a c = tv_not l (tv_V l tk se a (c + 1)) := by
  rw [tv_V, dif_neg (by omega), if_neg (by omega), if_pos h]
theorem tv_V_bin {l : Nat} {tk se : Nat → Nat} {a c : Nat} (hc : c < 18) (h : tk c ≠ 0) (h4 : tk c < 4) (hs : c < se c) : tv_V l tk se a c = tv_app l (tk c) (tv_V l tk se a (c + 1)) (tv_V l tk se a (se c)) := by
  rw [tv_V, dif_neg (by omega), if_neg (by omega), if_neg h, dif_pos hs]
theorem tv_V_lt (l : Nat) (tk se : Nat → Nat) (a : Nat) : ∀ (k c : Nat), 18 ≤ c + k → tv_V l tk se a c < 3 := by
  intro k
  induction k with
  | zero =>
    intro c hc
    rw [tv_V, dif_pos (by omega)]
    omega
  | succ k ih =>
    intro c hc
    rw [tv_V]
    split
    · omega
    · split
      · exact Nat.mod_lt _ (by omega)
      · split
        · exact tv_not_lt _ _
        · refine tv_app_lt (ih (c + 1) (by omega)) ?_
          split
          · exact ih _ (by omega)
          · omega
theorem tv_V3 (l : Nat) (tk se : Nat → Nat) (a c : Nat) : tv_V l tk se a c < 3 := tv_V_lt l tk se a 18 c (by omega)
/-! assignments as numbers below 81 -/
theorem tv_dig (d0 d1 d2 d3 : Nat) (h0 : d0 < 3) (h1 : d1 < 3) (h2 : d2 < 3) (h3 : d3 < 3) :
    ∃ a, a < 81 ∧ a / 3 ^ 0 % 3 = d0 ∧ a / 3 ^ 1 % 3 = d1 ∧ a / 3 ^ 2 % 3 = d2 ∧ a / 3 ^ 3 % 3 = d3 := by
  refine ⟨d0 + 3 * d1 + 9 * d2 + 27 * d3, by omega, ?_, ?_, ?_, ?_⟩
  · show (d0 + 3 * d1 + 9 * d2 + 27 * d3) / 1 % 3 = d0
    omega
  · show (d0 + 3 * d1 + 9 * d2 + 27 * d3) / 3 % 3 = d1
    omega
  · show (d0 + 3 * d1 + 9 * d2 + 27 * d3) / 9 % 3 = d2
    omega
  · show (d0 + 3 * d1 + 9 * d2 + 27 * d3) / 27 % 3 = d3
    omega
def tv_free (lf : Nat → Nat) (a : Nat) : Prop := a < 81 ∧ ∀ l, l < 4 → (lf l).testBit (a / 3 ^ l % 3) = true
theorem tv_free_ex {lf : Nat → Nat} (h : ∀ l, l < 4 → lf l < 8 ∧ 0 < lf l) : ∃ a, tv_free lf a := by
  obtain ⟨d0, k0, b0⟩ := tv_pick8 _ (h 0 (by omega)).1 (h 0 (by omega)).2
  obtain ⟨d1, k1, b1⟩ := tv_pick8 _ (h 1 (by omega)).1 (h 1 (by omega)).2
  obtain ⟨d2, k2, b2⟩ := tv_pick8 _ (h 2 (by omega)).1 (h 2 (by omega)).2
  obtain ⟨d3, k3, b3⟩ := tv_pick8 _ (h 3 (by omega)).1 (h 3 (by omega)).2
  obtain ⟨a, ha, e0, e1, e2, e3⟩ := tv_dig d0 d1 d2 d3 k0 k1 k2 k3
  refine ⟨a, ha, fun l hl => ?_⟩
  have hl' : l = 0 ∨ l = 1 ∨ l = 2 ∨ l = 3 := by omega
  rcases hl' with rfl | rfl | rfl | rfl
  · rw [e0]; exact b0
  · rw [e1]; exact b1
  · rw [e2]; exact b2
  · rw [e3]; exact b3
/-- where one formula, or m of them, ends: counted by wants -/
def tv_sk (w : Nat → Nat) : Nat → Nat → Nat → Nat
  | 0, m, k => k + m
  | f + 1, m, k => if m = 0 then k else tv_sk w f (m - 1 + w k) (k + 1)
theorem tv_sk_lt (w : Nat → Nat) : ∀ f m k, k + (if m = 0 then 0 else 1) ≤ tv_sk w f m k := by
  intro f
  induction f with
  | zero => intro m k; show _ ≤ k + m; split <;> omega
  | succ f ih =>
    intro m k
    show _ ≤ (if m = 0 then k else tv_sk w f (m - 1 + w k) (k + 1))
    have := ih (m - 1 + w k) (k + 1)
    split
    · omega
    · have h2 : k + 1 ≤ tv_sk w f (m - 1 + w k) (k + 1) := by
        refine Nat.le_trans ?_ this
        omega
      exact h2
theorem tv_sk_add (w : Nat → Nat) : ∀ f m m' k, tv_sk w f (m + m') k = tv_sk w (f - (tv_sk w f m k - k)) m' (tv_sk w f m k) := by
  intro f
  induction f with
  | zero =>
    intro m m' k
    show k + (m + m') = tv_sk w (0 - (k + m - k)) m' (k + m)
    rw [Nat.zero_sub]
    show k + (m + m') = k + m + m'
    omega
  | succ f ih =>
    intro m m' k
    by_cases hm : m = 0
    · subst hm
      have e : tv_sk w (f + 1) 0 k = k := rfl
      rw [e, Nat.sub_self, Nat.zero_add, Nat.sub_zero]
    · have e : tv_sk w (f + 1) m k = tv_sk w f (m - 1 + w k) (k + 1) := by
        show (if m = 0 then k else tv_sk w f (m - 1 + w k) (k + 1)) = _
        rw [if_neg hm]
      have e2 : tv_sk w (f + 1) (m + m') k = tv_sk w f (m - 1 + w k + m') (k + 1) := by
        show (if m + m' = 0 then k else tv_sk w f (m + m' - 1 + w k) (k + 1)) = _
        rw [if_neg (by omega), show m + m' - 1 + w k = m - 1 + w k + m' by omega]
      have h3 : k + 1 ≤ tv_sk w f (m - 1 + w k) (k + 1) := Nat.le_trans (by omega) (tv_sk_lt w f (m - 1 + w k) (k + 1))
      rw [e, e2, ih]
      rw [show f + 1 - (tv_sk w f (m - 1 + w k) (k + 1) - k) = f - (tv_sk w f (m - 1 + w k) (k + 1) - (k + 1)) by omega]
def tv_E (tk : Nat → Nat) (m k : Nat) : Nat := tv_sk (fun j => tv_wn (tk j)) (18 - k) m k
theorem tv_E0 (tk : Nat → Nat) (k : Nat) : tv_E tk 0 k = k := by
  unfold tv_E
  cases 18 - k <;> rfl
theorem tv_ES {tk : Nat → Nat} {m k : Nat} (hm : 1 ≤ m) (hk : k < 18) : tv_E tk m k = tv_E tk (m - 1 + tv_wn (tk k)) (k + 1) := by
  unfold tv_E
  rw [show 18 - k = (18 - (k + 1)) + 1 by omega]
  show (if m = 0 then k else tv_sk _ _ (m - 1 + tv_wn (tk k)) (k + 1)) = _
  rw [if_neg (by omega)]
theorem tv_Elt {tk : Nat → Nat} {m k : Nat} (hm : 1 ≤ m) : k < tv_E tk m k := by
  have := tv_sk_lt (fun j => tv_wn (tk j)) (18 - k) m k
  unfold tv_E
  rw [if_neg (by omega)] at this
  omega
theorem tv_Eadd (tk : Nat → Nat) (m m' k : Nat) : tv_E tk (m + m') k = tv_E tk m' (tv_E tk m k) := by
  have h : k ≤ tv_E tk m k := Nat.le_trans (by omega) (tv_sk_lt (fun j => tv_wn (tk j)) (18 - k) m k)
  have := tv_sk_add (fun j => tv_wn (tk j)) (18 - k) m m' k
  show tv_sk _ (18 - k) (m + m') k = tv_sk _ (18 - tv_E tk m k) m' (tv_E tk m k)
  rw [this]
  show tv_sk _ (18 - k - (tv_E tk m k - k)) m' (tv_E tk m k) = _
  rw [show 18 - k - (tv_E tk m k - k) = 18 - tv_E tk m k by omega]
def tv_se (tk : Nat → Nat) (c : Nat) : Nat := tv_E tk 1 (c + 1)
def tv_w (tk : Nat → Nat) (c : Nat) : Nat := tv_E tk 1 c - c
theorem tv_se_lt (tk : Nat → Nat) (c : Nat) : c + 1 < tv_se tk c := tv_Elt (by omega)
theorem tv_En {tk : Nat → Nat} {c : Nat} (hc : c < 18) (h : tk c = 0) : tv_E tk 1 c = tv_E tk 1 (c + 1) := by
  rw [tv_ES (by omega) hc, show 1 - 1 + tv_wn (tk c) = 1 by unfold tv_wn; rw [if_pos h]]
theorem tv_Eb {tk : Nat → Nat} {c : Nat} (hc : c < 18) (h : tk c ≠ 0) (h4 : tk c < 4) : tv_E tk 1 c = tv_E tk 1 (tv_se tk c) := by
  rw [tv_ES (by omega) hc, show 1 - 1 + tv_wn (tk c) = 1 + 1 by unfold tv_wn; rw [if_neg h, if_pos h4], tv_Eadd]
  rfl
end
section
/-! the pure picture of the search -/
def tv_G (tk : Nat → Nat) (ok : Nat → Prop) : Prop := ∀ c, ok c → c < 18 ∧ tk c < 8 ∧ 1 ≤ tv_w tk c ∧ (tk c = 0 → ok (c + 1) ∧ tv_w tk c = 1 + tv_w tk (c + 1)) ∧ (tk c ≠ 0 → tk c < 4 → ok (c + 1) ∧ ok (tv_se tk c) ∧ tv_w tk c = 1 + tv_w tk (c + 1) + tv_w tk (tv_se tk c))
def tv_v (l : Nat) (tk : Nat → Nat) (a c : Nat) : Nat := tv_V l tk (tv_se tk) a c
theorem tv_v3 (l : Nat) (tk : Nat → Nat) (a c : Nat) : tv_v l tk a c < 3 := tv_V3 _ _ _ _ _
theorem tv_v_let {l : Nat} {tk : Nat → Nat} {a c : Nat} (hc : c < 18) (h : 4 ≤ tk c) : tv_v l tk a c = a / 3 ^ (tk c - 4) % 3 := tv_V_let hc h
theorem tv_v_not {l : Nat} {tk : Nat → Nat} {a c : Nat} (hc : c < 18) (h : tk c = 0) : tv_v l tk a c = tv_not l (tv_v l tk a (c + 1)) := tv_V_not hc h
theorem tv_v_bin {l : Nat} {tk : Nat → Nat} {a c : Nat} (hc : c < 18) (h : tk c ≠ 0) (h4 : tk c < 4) : tv_v l tk a c = tv_app l (tk c) (tv_v l tk a (c + 1)) (tv_v l tk a (tv_se tk c)) :=
  tv_V_bin hc h h4 (by have := tv_se_lt tk c; omega)
def tv_up (f : Nat → Nat) (k x : Nat) : Nat → Nat := fun j => if j = k then x else f j
theorem tv_up_s {f : Nat → Nat} {k x : Nat} : tv_up f k x k = x := if_pos rfl
theorem tv_up_n {f : Nat → Nat} {k x j : Nat} (h : j ≠ k) : tv_up f k x j = f j := if_neg h
/-- a solves what is pending -/
def tv_Sol (v : Nat → Nat → Nat) (Q : List (Nat × Nat)) (lf : Nat → Nat) (a : Nat) : Prop := tv_free lf a ∧ ∀ p, p ∈ Q → p.2.testBit (v a p.1) = true
def tv_bn (l m : Nat) : Nat := tv_mk (fun x => m.testBit (tv_not l x)) 3
def tv_pt (l t x m : Nat) : Nat := tv_mk (fun y => m.testBit (tv_app l t x y)) 3
theorem tv_bn_lt (l m : Nat) : tv_bn l m < 8 := tv_mk_lt _ 3 (by omega)
theorem tv_pt_lt (l t x m : Nat) : tv_pt l t x m < 8 := tv_mk_lt _ 3 (by omega)
theorem tv_bn_bit (l m : Nat) {x : Nat} (hx : x < 3) : (tv_bn l m).testBit x = m.testBit (tv_not l x) := tv_mk_bit _ x hx
theorem tv_pt_bit (l t x m : Nat) {y : Nat} (hy : y < 3) : (tv_pt l t x m).testBit y = m.testBit (tv_app l t x y) := tv_mk_bit _ y hy
theorem tv_Sol_nil (v : Nat → Nat → Nat) {lf : Nat → Nat} (h : ∀ l, l < 4 → lf l < 8 ∧ 0 < lf l) : ∃ a, tv_Sol v [] lf a := by
  obtain ⟨a, ha⟩ := tv_free_ex h
  exact ⟨a, ha, fun p hp => absurd hp (by simp)⟩
theorem tv_Sol_zero {v : Nat → Nat → Nat} {Q : List (Nat × Nat)} {lf : Nat → Nat} {k : Nat} (hk : k < 4) (h : lf k = 0) : ¬ ∃ a, tv_Sol v Q lf a := by
  rintro ⟨a, ⟨_, h2⟩, _⟩
  have := h2 k hk
  rw [h, Nat.zero_testBit] at this
  exact absurd this (by simp)
theorem tv_Sol_cons {v : Nat → Nat → Nat} {Q : List (Nat × Nat)} {lf : Nat → Nat} {c m a : Nat} : tv_Sol v ((c, m) :: Q) lf a ↔ m.testBit (v a c) = true ∧ tv_Sol v Q lf a := by
  constructor
  · rintro ⟨h1, h2⟩
    exact ⟨h2 (c, m) (List.mem_cons_self), h1, fun p hp => h2 p (List.mem_cons_of_mem _ hp)⟩
  · rintro ⟨h0, h1, h2⟩
    refine ⟨h1, fun p hp => ?_⟩
    rcases List.mem_cons.mp hp with e | e
    · rw [e]; exact h0
    · exact h2 p e
theorem tv_Sol_app {v : Nat → Nat → Nat} {Q R : List (Nat × Nat)} {lf : Nat → Nat} {a : Nat} : tv_Sol v (Q ++ R) lf a ↔ tv_Sol v Q lf a ∧ ∀ p, p ∈ R → p.2.testBit (v a p.1) = true := by
  constructor
  · rintro ⟨h1, h2⟩
    exact ⟨⟨h1, fun p hp => h2 p (List.mem_append.mpr (Or.inl hp))⟩, fun p hp => h2 p (List.mem_append.mpr (Or.inr hp))⟩
  · rintro ⟨⟨h1, h2⟩, h3⟩
    refine ⟨h1, fun p hp => ?_⟩
    rcases List.mem_append.mp hp with e | e
    · exact h2 p e
    · exact h3 p e
theorem tv_Sol_let {v : Nat → Nat → Nat} {Q : List (Nat × Nat)} {lf : Nat → Nat} {c m k a : Nat} (hk : k < 4) (hv : v a c = a / 3 ^ k % 3) : tv_Sol v ((c, m) :: Q) lf a ↔ tv_Sol v Q (tv_up lf k (lf k &&& m)) a := by
  rw [tv_Sol_cons]
  constructor
  · rintro ⟨h0, ⟨h1, h2⟩, h3⟩
    refine ⟨⟨h1, fun l hl => ?_⟩, h3⟩
    by_cases e : l = k
    · subst e
      rw [tv_up_s, Nat.testBit_and, h2 l hl, ← hv, h0]
      rfl
    · rw [tv_up_n e]
      exact h2 l hl
  · rintro ⟨⟨h1, h2⟩, h3⟩
    have hb := h2 k hk
    rw [tv_up_s, Nat.testBit_and, Bool.and_eq_true] at hb
    refine ⟨by rw [hv]; exact hb.2, ⟨h1, fun l hl => ?_⟩, h3⟩
    by_cases e : l = k
    · subst e
      exact hb.1
    · have := h2 l hl
      rw [tv_up_n e] at this
      exact this
theorem tv_Sol_not {v : Nat → Nat → Nat} {Q : List (Nat × Nat)} {lf : Nat → Nat} {l c m a : Nat} (h3 : v a (c + 1) < 3) (hv : v a c = tv_not l (v a (c + 1))) : tv_Sol v ((c, m) :: Q) lf a ↔ tv_Sol v (Q ++ [(c + 1, tv_bn l m)]) lf a := by
  rw [tv_Sol_cons, tv_Sol_app]
  constructor
  · rintro ⟨h0, h1⟩
    refine ⟨h1, fun p hp => ?_⟩
    rw [List.mem_singleton.mp hp]
    show (tv_bn l m).testBit (v a (c + 1)) = true
    rw [tv_bn_bit l m h3, ← hv]
    exact h0
  · rintro ⟨h1, h2⟩
    have := h2 (c + 1, tv_bn l m) (List.mem_singleton.mpr rfl)
    have h' : (tv_bn l m).testBit (v a (c + 1)) = true := this
    rw [tv_bn_bit l m h3, ← hv] at h'
    exact ⟨h', h1⟩
theorem tv_Sol_bin {v : Nat → Nat → Nat} {Q : List (Nat × Nat)} {lf : Nat → Nat} {l t c s m a x : Nat} (hx : x < 3) (h3 : v a (c + 1) < 3) (hs3 : v a s < 3) (hv : v a c = tv_app l t (v a (c + 1)) (v a s)) : tv_Sol v (Q ++ [(c + 1, 2 ^ x)] ++ [(s, tv_pt l t x m)]) lf a ↔ tv_Sol v ((c, m) :: Q) lf a ∧ v a (c + 1) = x := by
  rw [tv_Sol_cons, tv_Sol_app, tv_Sol_app]
  constructor
  · rintro ⟨⟨h1, h2⟩, h4⟩
    have e2 : (2 ^ x).testBit (v a (c + 1)) = true := h2 (c + 1, 2 ^ x) (List.mem_singleton.mpr rfl)
    have e : x = v a (c + 1) := (tv_p2 x hx _ h3).mp e2
    have e4 : (tv_pt l t x m).testBit (v a s) = true := h4 (s, tv_pt l t x m) (List.mem_singleton.mpr rfl)
    rw [tv_pt_bit l t x m hs3, e, ← hv] at e4
    exact ⟨⟨e4, h1⟩, e.symm⟩
  · rintro ⟨⟨h0, h1⟩, e⟩
    refine ⟨⟨h1, fun p hp => ?_⟩, fun p hp => ?_⟩
    · rw [List.mem_singleton.mp hp]
      show (2 ^ x).testBit (v a (c + 1)) = true
      exact (tv_p2 x hx _ h3).mpr e.symm
    · rw [List.mem_singleton.mp hp]
      show (tv_pt l t x m).testBit (v a s) = true
      rw [tv_pt_bit l t x m hs3, ← e, ← hv]
      exact h0
/-! sums over what is pending -/
def tv_sm (f : Nat → Nat) : List (Nat × Nat) → Nat
  | [] => 0
  | p :: Q => f p.1 + tv_sm f Q
theorem tv_sm_app (f : Nat → Nat) (Q R : List (Nat × Nat)) : tv_sm f (Q ++ R) = tv_sm f Q + tv_sm f R := by
  induction Q with
  | nil => show tv_sm f R = 0 + tv_sm f R; omega
  | cons p Q ih =>
    show f p.1 + tv_sm f (Q ++ R) = f p.1 + tv_sm f Q + tv_sm f R
    omega
theorem tv_sm_1 (f : Nat → Nat) (c m : Nat) : tv_sm f [(c, m)] = f c := rfl
theorem tv_sm_c (f : Nat → Nat) (c m : Nat) (Q : List (Nat × Nat)) : tv_sm f ((c, m) :: Q) = f c + tv_sm f Q := rfl
theorem tv_sm_len {f : Nat → Nat} {Q : List (Nat × Nat)} (h : ∀ p, p ∈ Q → 1 ≤ f p.1) : Q.length ≤ tv_sm f Q := by
  induction Q with
  | nil => exact Nat.le_refl 0
  | cons p Q ih =>
    have h1 := h p (List.mem_cons_self)
    have h2 := ih (fun q hq => h q (List.mem_cons_of_mem _ hq))
    show Q.length + 1 ≤ f p.1 + tv_sm f Q
    omega
def tv_b (tk : Nat → Nat) (c : Nat) : Nat := (tv_w tk c - 1) / 2
def tv_bs (tk : Nat → Nat) (Q : List (Nat × Nat)) : Nat := tv_sm (tv_b tk) Q
def tv_ws (tk : Nat → Nat) (Q : List (Nat × Nat)) : Nat := tv_sm (tv_w tk) Q
theorem tv_b_not {tk : Nat → Nat} {ok : Nat → Prop} {c : Nat} (g : tv_G tk ok) (hc : ok c) (h : tk c = 0) : tv_b tk (c + 1) ≤ tv_b tk c := by
  have := ((g c hc).2.2.2.1 h).2
  unfold tv_b
  omega
theorem tv_b_bin {tk : Nat → Nat} {ok : Nat → Prop} {c : Nat} (g : tv_G tk ok) (hc : ok c) (h : tk c ≠ 0) (h4 : tk c < 4) : tv_b tk (c + 1) + tv_b tk (tv_se tk c) + 1 ≤ tv_b tk c := by
  obtain ⟨o1, o2, e⟩ := (g c hc).2.2.2.2 h h4
  have w1 := (g _ o1).2.2.1
  have w2 := (g _ o2).2.2.1
  unfold tv_b
  omega
/-! the arrays hold the picture -/
def tv_QM (a6 a7 : Nat → Int32) : List (Nat × Nat) → Nat → Prop
  | [], _ => True
  | p :: Q, h => a6 h = nI p.1 ∧ a7 h = nI p.2 ∧ tv_QM a6 a7 Q (h + 1)
theorem tv_QM_ag {a6 a7 a6' a7' : Nat → Int32} : ∀ {Q : List (Nat × Nat)} {h : Nat}, (∀ j, j < h + Q.length → a6' j = a6 j ∧ a7' j = a7 j) → tv_QM a6 a7 Q h → tv_QM a6' a7' Q h := by
  intro Q
  induction Q with
  | nil => intro h _ _; trivial
  | cons p Q ih =>
    intro h hj hq
    obtain ⟨q1, q2, q3⟩ := hq
    have hl : h < h + (p :: Q).length := by rw [List.length_cons]; omega
    refine ⟨by rw [(hj h hl).1]; exact q1, by rw [(hj h hl).2]; exact q2, ih (fun j hj' => hj j ?_) q3⟩
    rw [List.length_cons]
    omega
theorem tv_QM_push {a6 a7 : Nat → Int32} (c m : Nat) : ∀ {Q : List (Nat × Nat)} {h d : Nat}, d = h + Q.length → tv_QM a6 a7 Q h → tv_QM (upd a6 d (nI c)) (upd a7 d (nI m)) (Q ++ [(c, m)]) h := by
  intro Q
  induction Q with
  | nil =>
    intro h d hd _
    have e : d = h := by rw [hd]; rfl
    subst e
    exact ⟨pk_us, pk_us, trivial⟩
  | cons p Q ih =>
    intro h d hd hq
    obtain ⟨q1, q2, q3⟩ := hq
    rw [List.length_cons] at hd
    have e : h ≠ d := by omega
    exact ⟨by rw [pk_un e]; exact q1, by rw [pk_un e]; exact q2, ih (by omega) q3⟩
/-- a frame: head, what was pending, the values left, how many values of the first part are done -/
abbrev tv_Fr : Type := Nat × List (Nat × Nat) × (Nat → Nat) × Nat
def tv_FM (a6 a7 a9 a10 a11 a12 : Nat → Int32) : List tv_Fr → Prop
  | [] => True
  | (h, Q, lf, tr) :: r => a9 r.length = nI (h + Q.length) ∧ a10 r.length = nI h ∧ (∀ l, l < 4 → a11 (r.length * 4 + l) = nI (lf l)) ∧ a12 r.length + 1 = nI tr ∧ tv_QM a6 a7 Q h ∧ tv_FM a6 a7 a9 a10 a11 a12 r
def tv_bin (tk : Nat → Nat) (Q : List (Nat × Nat)) : Prop := ∃ c m T, Q = (c, m) :: T ∧ tk c ≠ 0 ∧ tk c < 4
def tv_QP (tk : Nat → Nat) (ok : Nat → Prop) (h : Nat) (Q : List (Nat × Nat)) (lf : Nat → Nat) : Prop := (∀ p, p ∈ Q → ok p.1 ∧ p.2 < 8) ∧ (∀ l, l < 4 → lf l < 8 ∧ 0 < lf l) ∧ h + tv_ws tk Q ≤ 18
def tv_FP (tk : Nat → Nat) (ok : Nat → Prop) : List tv_Fr → Nat → Prop
  | [], _ => True
  | (h, Q, lf, tr) :: r, d => h + Q.length ≤ d ∧ tv_QP tk ok h Q lf ∧ r.length + tv_bs tk Q ≤ 8 ∧ tr ≤ 3 ∧ tv_bin tk Q ∧ tv_FP tk ok r (h + Q.length)
def tv_hc : List (Nat × Nat) → Nat
  | [] => 0
  | p :: _ => p.1
def tv_RF (v : Nat → Nat → Nat) (Q : List (Nat × Nat)) (lf : Nat → Nat) (tr : Nat) : Prop := ∃ a, tv_Sol v Q lf a ∧ tr ≤ v a (tv_hc Q + 1)
def tv_Rem (v : Nat → Nat → Nat) : List tv_Fr → Prop
  | [] => False
  | (_, Q, lf, tr) :: r => tv_RF v Q lf tr ∨ tv_Rem v r
def tv_t : Nat → Nat
  | 0 => 0
  | n + 1 => 1 + 3 * tv_t n
def tv_Phi (tk : Nat → Nat) : List tv_Fr → Nat
  | [] => 0
  | (_, Q, _, tr) :: r => (3 - tr) * tv_t (tv_bs tk Q) + tv_Phi tk r
theorem tv_t_mono : ∀ {a b : Nat}, a ≤ b → tv_t a ≤ tv_t b := by
  intro a b h
  induction h with
  | refl => exact Nat.le_refl _
  | step _ ih => show tv_t a ≤ 1 + 3 * tv_t _; omega
theorem tv_FP_mono {tk : Nat → Nat} {ok : Nat → Prop} : ∀ {fr : List tv_Fr} {d d' : Nat}, d ≤ d' → tv_FP tk ok fr d → tv_FP tk ok fr d' := by
  intro fr d d' h hp
  cases fr with
  | nil => trivial
  | cons f r =>
    obtain ⟨hh, Q, lf, tr⟩ := f
    exact ⟨Nat.le_trans hp.1 h, hp.2⟩
theorem tv_FM_ag {tk : Nat → Nat} {ok : Nat → Prop} {a6 a7 a6' a7' a9 a10 a11 a12 : Nat → Int32} : ∀ {fr : List tv_Fr} {d : Nat}, tv_FP tk ok fr d → (∀ j, j < d → a6' j = a6 j ∧ a7' j = a7 j) → tv_FM a6 a7 a9 a10 a11 a12 fr → tv_FM a6' a7' a9 a10 a11 a12 fr := by
  intro fr
  induction fr with
  | nil => intro d _ _ _; trivial
  | cons f r ih =>
    obtain ⟨hh, Q, lf, tr⟩ := f
    intro d hp hj hm
    obtain ⟨m1, m2, m3, m4, m5, m6⟩ := hm
    obtain ⟨p1, p2, p3, p4, p5, p6⟩ := hp
    exact ⟨m1, m2, m3, m4, tv_QM_ag (fun j hj' => hj j (by omega)) m5, ih p6 (fun j hj' => hj j (by omega)) m6⟩
theorem tv_FM_up {a6 a7 a9 a10 a11 a12 a9' a10' a11' a12' : Nat → Int32} : ∀ {fr : List tv_Fr}, (∀ j, j < fr.length → a9' j = a9 j ∧ a10' j = a10 j ∧ a12' j = a12 j) → (∀ j, j < fr.length * 4 → a11' j = a11 j) → tv_FM a6 a7 a9 a10 a11 a12 fr → tv_FM a6 a7 a9' a10' a11' a12' fr := by
  intro fr
  induction fr with
  | nil => intro _ _ _; trivial
  | cons f r ih =>
    obtain ⟨hh, Q, lf, tr⟩ := f
    intro h1 h2 hm
    obtain ⟨m1, m2, m3, m4, m5, m6⟩ := hm
    rw [List.length_cons] at h1 h2
    have k := h1 r.length (by omega)
    refine ⟨by rw [k.1]; exact m1, by rw [k.2.1]; exact m2, fun l hl => ?_, by rw [k.2.2]; exact m4, m5, ih (fun j hj => h1 j (by omega)) (fun j hj => h2 j (by omega)) m6⟩
    rw [h2 _ (by omega)]
    exact m3 l hl
end
section
/-! walks of the small methods -/
theorem tv_two_sub {x : Nat} (hx : x < 3) : (2 : Int32) - nI x = nI (2 - x) := pk_sub (a := 2) (b := x) (by omega)
theorem tv_w_not {post : Int32 → Prop} {oc dm hd fv ov : Int32} {a1 a2 a3 a4 a5 a6 a7 a8 a9 a10 a11 a12 a13 a14 : Nat → Int32} {l x : Nat} {p : Int32} (hl : l ≤ 2) (hx : x < 3) (hp : p = nI x) (H : post (nI (tv_not l x))) : wpX_not post (nI l, oc, dm, hd, fv, ov, a1, a2, a3, a4, a5, a6, a7, a8, a9, a10, a11, a12, a13, a14) p := by
  subst hp
  unfold tv_not at H
  refine pk_eq l 2 (fun z => pk_eq x 0 (fun z0 => ?_) (fun z0 => ?_)) (fun z => ?_)
  · rw [if_pos z, if_pos z0] at H
    exact H
  · rw [if_pos z, if_neg z0] at H
    exact H
  · rw [if_neg z] at H
    show post (2 - nI x)
    rw [tv_two_sub hx]
    exact H
theorem tv_w_app {post : Int32 → Prop} {oc dm hd fv ov : Int32} {a1 a2 a3 a4 a5 a6 a7 a8 a9 a10 a11 a12 a13 a14 : Nat → Int32} {l t x y : Nat} {p q r : Int32} (hl : l ≤ 2) (ht : t < 8) (hx : x < 3) (hy : y < 3) (hp : p = nI t) (hq : q = nI x) (hr : r = nI y) (H : post (nI (tv_app l t x y))) : wpX_apply post (nI l, oc, dm, hd, fv, ov, a1, a2, a3, a4, a5, a6, a7, a8, a9, a10, a11, a12, a13, a14) p q r := by
  subst hp
  subst hq
  subst hr
  unfold tv_app at H
  have e : (2 : Int32) - nI x + nI y = nI (2 - x + y) := by rw [tv_two_sub hx, nI_add]
  refine pk_eq t 1 (fun z => pk_le y x (fun k => ?_) (fun k => ?_)) (fun z => pk_eq t 2 (fun z2 => pk_le x y (fun k => ?_) (fun k => ?_)) (fun z2 => pk_eq l 0 (fun z3 => pk_le 2 (2 - x + y) (fun k => ?_) (fun k => ?_) rfl e) (fun z3 => pk_eq l 1 (fun z4 => pk_le (2 - x) y (fun k => ?_) (fun k => ?_) (tv_two_sub hx)) (fun z4 => pk_lt y x (fun k => ?_) (fun k => ?_)))))
  · rw [if_pos z, if_pos k] at H
    exact H
  · rw [if_pos z, if_neg (by omega)] at H
    exact H
  · rw [if_neg z, if_pos z2, if_pos k] at H
    exact H
  · rw [if_neg z, if_pos z2, if_neg (by omega)] at H
    exact H
  · rw [if_neg z, if_neg z2, if_pos z3, if_pos k] at H
    exact H
  · rw [if_neg z, if_neg z2, if_pos z3, if_neg (by omega)] at H
    show post (2 - nI x + nI y)
    rw [e]
    exact H
  · rw [if_neg z, if_neg z2, if_neg z3, if_pos z4, if_pos k] at H
    exact H
  · rw [if_neg z, if_neg z2, if_neg z3, if_pos z4, if_neg (by omega)] at H
    show post (2 - nI x)
    rw [tv_two_sub hx]
    exact H
  · rw [if_neg z, if_neg z2, if_neg z3, if_neg z4, if_pos k] at H
    exact H
  · rw [if_neg z, if_neg z2, if_neg z3, if_neg z4, if_neg (by omega)] at H
    exact H
theorem tv_mk_t {p : Nat → Bool} {i : Nat} (h : p i = true) : tv_mk p (i + 1) = tv_mk p i ||| 2 ^ i := if_pos h
theorem tv_mk_f {p : Nat → Bool} {i : Nat} (h : p i = false) : tv_mk p (i + 1) = tv_mk p i := if_neg (by rw [h]; exact Bool.false_ne_true)
theorem tv_w_bn {post : Int32 → Prop} {oc dm hd fv ov : Int32} {a1 a2 a3 a4 a5 a6 a7 a8 a9 a10 a11 a12 a13 a14 : Nat → Int32} {l m : Nat} {p : Int32} (hl : l ≤ 2) (hm : m < 8) (hp : p = nI m) (H : post (nI (tv_bn l m))) : wpX_beforeNot post (nI l, oc, dm, hd, fv, ov, a1, a2, a3, a4, a5, a6, a7, a8, a9, a10, a11, a12, a13, a14) p := by
  subst hp
  refine pk_loop (σ := Unit) (fun n i _ => wX_beforeNot_4 post (nI m) (nI l) oc dm hd fv ov a1 a2 a3 a4 a5 a6 a7 a8 a9 a10 a11 a12 a13 a14 n (nI (tv_mk (fun x => m.testBit (tv_not l x)) i)) (nI i)) (fun _ _ => True) 3 0 () (by omega) trivial ?_ ?_
  · intro n _ _
    exact pk_le 3 3 (fun _ => H) (fun z => absurd z (by omega))
  · intro n i _ hi _ hw
    have hw' := hw () trivial
    refine pk_le 3 i (fun z => absurd z (by omega)) (fun _ => tv_w_not hl hi rfl ?_)
    cases hb : m.testBit (tv_not l i) with
    | false =>
      rw [tv_mk_f (p := fun x => m.testBit (tv_not l x)) hb] at hw'
      exact br_t ((tv_bit8 m hm _ (tv_not_lt l i)).mpr hb) (nm_r (nI_1 i) hw')
    | true =>
      rw [tv_mk_t (p := fun x => m.testBit (tv_not l x)) hb] at hw'
      refine br_f (fun z => ?_) (nm_r ?_ (nm_r (nI_1 i) hw'))
      · rw [(tv_bit8 m hm _ (tv_not_lt l i)).mp z] at hb
        exact absurd hb (by simp)
      · rw [tv_sh i hi]
        exact (tv_or8 _ (tv_mk_lt _ i (by omega)) i hi).1
theorem tv_w_pt {post : Int32 → Prop} {oc dm hd fv ov : Int32} {a1 a2 a3 a4 a5 a6 a7 a8 a9 a10 a11 a12 a13 a14 : Nat → Int32} {l m t x : Nat} {p q r : Int32} (hl : l ≤ 2) (hm : m < 8) (ht : t < 8) (hx : x < 3) (hp : p = nI t) (hq : q = nI x) (hr : r = nI m) (H : post (nI (tv_pt l t x m))) : wpX_partners post (nI l, oc, dm, hd, fv, ov, a1, a2, a3, a4, a5, a6, a7, a8, a9, a10, a11, a12, a13, a14) p q r := by
  subst hp
  subst hq
  subst hr
  refine pk_loop (σ := Unit) (fun n i _ => wX_partners_6 post (nI t) (nI x) (nI m) (nI l) oc dm hd fv ov a1 a2 a3 a4 a5 a6 a7 a8 a9 a10 a11 a12 a13 a14 n (nI (tv_mk (fun y => m.testBit (tv_app l t x y)) i)) (nI i)) (fun _ _ => True) 3 0 () (by omega) trivial ?_ ?_
  · intro n _ _
    exact pk_le 3 3 (fun _ => H) (fun z => absurd z (by omega))
  · intro n i _ hi _ hw
    have hw' := hw () trivial
    have hlt : tv_app l t x i < 3 := tv_app_lt hx hi
    refine pk_le 3 i (fun z => absurd z (by omega)) (fun _ => tv_w_app hl ht hx hi rfl rfl rfl ?_)
    cases hb : m.testBit (tv_app l t x i) with
    | false =>
      rw [tv_mk_f (p := fun y => m.testBit (tv_app l t x y)) hb] at hw'
      exact br_t ((tv_bit8 m hm _ hlt).mpr hb) (nm_r (nI_1 i) hw')
    | true =>
      rw [tv_mk_t (p := fun y => m.testBit (tv_app l t x y)) hb] at hw'
      refine br_f (fun z => ?_) (nm_r ?_ (nm_r (nI_1 i) hw'))
      · rw [(tv_bit8 m hm _ hlt).mp z] at hb
        exact absurd hb (by simp)
      · rw [tv_sh i hi]
        exact (tv_or8 _ (tv_mk_lt _ i (by omega)) i hi).1
theorem tv_w_demand {post : St1 → Prop} {lg oc hd fv ov : Int32} {a1 a2 a3 a4 a5 a6 a7 a8 a9 a10 a11 a12 a13 a14 : Nat → Int32} {d c m : Nat} {p q : Int32} (h32 : d < 32) (hc : c < 128) (hm : m < 128) (hp : p = nI c) (hq : q = nI m) (H : post (lg, oc, nI (d + 1), hd, fv, ov, a1, a2, a3, a4, a5, upd a6 d (nI c), upd a7 d (nI m), a8, a9, a10, a11, a12, a13, a14)) : wpX_demand post (lg, oc, nI d, hd, fv, ov, a1, a2, a3, a4, a5, a6, a7, a8, a9, a10, a11, a12, a13, a14) p q := by
  subst hp
  subst hq
  exact pk_le 32 d (fun z => absurd z (by omega)) (fun _ => ⟨pk_in d 32 h32, nm_r (e' := upd a6 d (nI c)) (by rw [nI_clamp (by omega), tv_b8 c hc]) ⟨pk_in d 32 h32, nm_r (e' := upd a7 d (nI m)) (by rw [nI_clamp (by omega), tv_b8 m hm]) (nm_r (nI_1 d) H)⟩⟩)
theorem tv_w_isF {post : Int32 → Prop} {u : St2} {f : Nat} (hf : f < 2) (H : post 1) : wpX_isFormula post u (nI f) :=
  pk_eq f 0 (fun _ => H) (fun _ => pk_eq f 1 (fun _ => H) (fun _ => absurd hf (by omega)))
theorem tv_w_isV {post : Int32 → Prop} {u : St2} {x : Nat} (hx : x < 3) (H : post 1) : wpX_isValue post u (nI x) :=
  pk_lt x 0 (fun z => absurd z (by omega)) (fun _ => pk_le 3 x (fun z => absurd z (by omega)) (fun _ => H))
theorem tv_w_wants {post : Int32 → Prop} {u : St2} {t : Nat} {p : Int32} (ht : t < 8) (hp : p = nI t) (H : post (nI (tv_wn t))) : wpX_wants post u p := by
  subst hp
  unfold tv_wn at H
  refine pk_eq t 0 (fun z => ?_) (fun z => pk_le 4 t (fun k => ?_) (fun k => ?_))
  · rw [if_pos z] at H
    exact H
  · rw [if_neg z, if_neg (by omega)] at H
    exact H
  · rw [if_neg z, if_pos k] at H
    exact H
theorem tv_w_vo {post : Int32 → Prop} {u : St2} {k a : Nat} {p q : Int32} (hk : k < 4) (ha : a < 81) (hp : p = nI k) (hq : q = nI a) (H : post (nI (a / 3 ^ k % 3))) : wpX_valueOf post u p q := by
  subst hp
  subst hq
  refine pk_loop (fun n i s => wX_valueOf_4 post (nI k) n s (nI i)) (fun i s => s = nI (a / 3 ^ i)) k 0 (nI a) (by omega) ?_ ?_ ?_
  · show nI a = nI (a / 3 ^ 0)
    rw [Nat.pow_zero, Nat.div_one]
  · intro n s hs
    refine pk_le k k (fun _ => ⟨by decide, ?_⟩) (fun z => absurd z (by omega))
    show post (s - s / 3 * 3)
    have hle : a / 3 ^ k ≤ a := Nat.div_le_self _ _
    rw [hs, show nI (a / 3 ^ k) - nI (a / 3 ^ k) / 3 * 3 = nI (a / 3 ^ k % 3) from pk_rem (d := 3) (by omega) (by omega) (by omega)]
    exact H
  · intro n i s hi hs hw
    have hle : a / 3 ^ i ≤ a := Nat.div_le_self _ _
    refine pk_le k i (fun z => absurd z (by omega)) (fun _ => ⟨by decide, nm_r (e' := nI (a / 3 ^ (i + 1))) ?_ (nm_r (nI_1 i) (hw _ rfl))⟩)
    rw [hs, show nI (a / 3 ^ i) / 3 = nI (a / 3 ^ i / 3) from pk_div (d := 3) (by omega) (by omega) (by omega), Nat.div_div_eq_div_mul, Nat.pow_succ]
theorem tv_w_ask {post : St1 → Prop} {lg oc dm hd fv ov : Int32} {a1 a2 a3 a4 a5 a6 a7 a8 a9 a10 a11 a12 a13 a14 : Nat → Int32} {p q : Int32} (H : ∀ a13' : Nat → Int32, (∀ l, l < 4 → a13' l = nI 7) → post (lg, oc, dm, hd, p, q, a1, a2, a3, a4, a5, a6, a7, a8, a9, a10, a11, a12, a13', a14)) : wpX_ask post (lg, oc, dm, hd, fv, ov, a1, a2, a3, a4, a5, a6, a7, a8, a9, a10, a11, a12, a13, a14) p q := by
  refine pk_loop (fun n i s => wX_ask_12 post lg oc dm hd p q n (nI i) a1 a2 a3 a4 a5 a6 a7 a8 a9 a10 a11 a12 s a14) (fun i s => ∀ j, j < i → s j = nI 7) 4 0 a13 (by omega) (fun j hj => absurd hj (by omega)) ?_ ?_
  · intro n s hs
    exact pk_le 4 4 (fun _ => H s hs) (fun z => absurd z (by omega))
  · intro n i s hi hs hw
    refine pk_le 4 i (fun z => absurd z (by omega)) (fun _ => ⟨pk_in i 4 hi, nm_r (e' := upd s i (nI 7)) (by rw [nI_clamp (by omega)]; rfl) (nm_r (nI_1 i) (hw _ ?_))⟩)
    intro j hj
    by_cases e : j = i
    · rw [e, pk_us]
    · rw [pk_un e]
      exact hs j (by omega)
theorem tv_k4 (k i : Nat) : nI k * 4 + nI i = nI (k * 4 + i) := by
  rw [show nI k * 4 = nI (k * 4) from pk_mul k 4, nI_add]
theorem tv_w_open {post : St1 → Prop} {lg oc fv ov : Int32} {a1 a2 a3 a4 a5 a6 a7 a8 a9 a10 a11 a12 a13 a14 : Nat → Int32} {k d h : Nat} {lf : Nat → Nat} (hk : k < 12) (hd : d < 128) (hh : h < 128) (h8 : ∀ l, l < 4 → a8 l = nI (lf l)) (hlf : ∀ l, l < 4 → lf l < 128)
    (H : ∀ a11' : Nat → Int32, (∀ j, j < k * 4 → a11' j = a11 j) → (∀ l, l < 4 → a11' (k * 4 + l) = nI (lf l)) → post (lg, oc, nI d, nI h, fv, ov, a1, a2, a3, a4, a5, a6, a7, a8, upd a9 k (nI d), upd a10 k (nI h), a11', upd a12 k (-1), a13, a14)) : wpX_open post (lg, oc, nI d, nI h, fv, ov, a1, a2, a3, a4, a5, a6, a7, a8, a9, a10, a11, a12, a13, a14) (nI k) := by
  refine ⟨pk_in k 12 hk, nm_r (e' := upd a9 k (nI d)) (by rw [nI_clamp (by omega), tv_b8 d hd]) ⟨pk_in k 12 hk, nm_r (e' := upd a10 k (nI h)) (by rw [nI_clamp (by omega), tv_b8 h hh]) ⟨pk_in k 12 hk, nm_r (e' := upd a12 k (-1)) (by rw [nI_clamp (by omega)]) ?_⟩⟩⟩
  refine pk_loop (fun n i s => wX_open_31 post (nI k) lg oc (nI d) (nI h) fv ov n (nI i) a1 a2 a3 a4 a5 a6 a7 a8 (upd a9 k (nI d)) (upd a10 k (nI h)) s (upd a12 k (-1)) a13 a14) (fun i s => (∀ j, j < k * 4 → s j = a11 j) ∧ ∀ l, l < i → s (k * 4 + l) = nI (lf l)) 4 0 a11 (by omega) ⟨fun j _ => rfl, fun j hj => absurd hj (by omega)⟩ ?_ ?_
  · intro n s hs
    exact pk_le 4 4 (fun _ => H s hs.1 hs.2) (fun z => absurd z (by omega))
  · intro n i s hi hs hw
    refine pk_le 4 i (fun z => absurd z (by omega)) (fun _ => ⟨pk_in i 4 hi, pk_in (k * 4 + i) 48 (by omega) (tv_k4 k i), nm_r (e' := upd s (k * 4 + i) (nI (lf i))) (by rw [tv_k4, nI_clamp (by omega), nI_clamp (by omega), h8 i hi, tv_nar (hlf i hi)]) (nm_r (nI_1 i) (hw _ ⟨?_, ?_⟩))⟩)
    · intro j hj
      rw [pk_un (by omega)]
      exact hs.1 j hj
    · intro j hj
      by_cases e : j = i
      · rw [e, pk_us]
      · rw [pk_un (by omega)]
        exact hs.2 j (by omega)
end
section
/-! goOn: demands that need no branch -/
theorem tv_ws_c (tk : Nat → Nat) (c m : Nat) (Q : List (Nat × Nat)) : tv_ws tk ((c, m) :: Q) = tv_w tk c + tv_ws tk Q := rfl
theorem tv_bs_c (tk : Nat → Nat) (c m : Nat) (Q : List (Nat × Nat)) : tv_bs tk ((c, m) :: Q) = tv_b tk c + tv_bs tk Q := rfl
theorem tv_ws_a (tk : Nat → Nat) (c m : Nat) (Q : List (Nat × Nat)) : tv_ws tk (Q ++ [(c, m)]) = tv_ws tk Q + tv_w tk c := tv_sm_app _ _ _
theorem tv_bs_a (tk : Nat → Nat) (c m : Nat) (Q : List (Nat × Nat)) : tv_bs tk (Q ++ [(c, m)]) = tv_bs tk Q + tv_b tk c := tv_sm_app _ _ _
theorem tv_QP_len {tk : Nat → Nat} {ok : Nat → Prop} {h : Nat} {Q : List (Nat × Nat)} {lf : Nat → Nat} (g : tv_G tk ok) (hp : tv_QP tk ok h Q lf) : h + Q.length ≤ 18 := by
  have := tv_sm_len (f := tv_w tk) (Q := Q) (fun p hq => (g _ (hp.1 p hq).1).2.2.1)
  have h2 : h + tv_sm (tv_w tk) Q ≤ 18 := hp.2.2
  omega
theorem tv_len_a (Q : List (Nat × Nat)) (p : Nat × Nat) : (Q ++ [p]).length = Q.length + 1 := by simp
theorem tv_go {post : Int32 → St1 → Prop} {oc fv ov : Int32} {a1 a2 a3 a4 a5 a9 a10 a11 a12 a13 a14 : Nat → Int32} {l : Nat} {tk : Nat → Nat} {ok : Nat → Prop} (hl : l ≤ 2) (g : tv_G tk ok) (h1 : ∀ j, j < 18 → a1 j = nI (tk j)) :
    ∀ (N : Nat) (Q : List (Nat × Nat)) (lf : Nat → Nat) (h d : Nat) (a6 a7 a8 : Nat → Int32), tv_ws tk Q < N → tv_QM a6 a7 Q h → tv_QP tk ok h Q lf → (∀ k, k < 4 → a8 k = nI (lf k)) → d ≤ h + Q.length →
    ((∃ a, tv_Sol (tv_v l tk) Q lf a) → ∀ (dm' hd' : Int32) (a6' a7' a8' : Nat → Int32), post 1 (nI l, oc, dm', hd', fv, ov, a1, a2, a3, a4, a5, a6', a7', a8', a9, a10, a11, a12, a13, a14)) →
    ((¬ ∃ a, tv_Sol (tv_v l tk) Q lf a) → ∀ (dm' hd' : Int32) (a6' a7' a8' : Nat → Int32), (∀ j, j < d → a6' j = a6 j ∧ a7' j = a7 j) → post 0 (nI l, oc, dm', hd', fv, ov, a1, a2, a3, a4, a5, a6', a7', a8', a9, a10, a11, a12, a13, a14)) →
    (∀ (Q' : List (Nat × Nat)) (lf' : Nat → Nat) (h' : Nat) (a6' a7' a8' : Nat → Int32), tv_QM a6' a7' Q' h' → tv_QP tk ok h' Q' lf' → (∀ k, k < 4 → a8' k = nI (lf' k)) → (∀ a, tv_Sol (tv_v l tk) Q' lf' a ↔ tv_Sol (tv_v l tk) Q lf a) → tv_bs tk Q' ≤ tv_bs tk Q → d ≤ h' + Q'.length → (∀ j, j < d → a6' j = a6 j ∧ a7' j = a7 j) → tv_bin tk Q' → post 2 (nI l, oc, nI (h' + Q'.length), nI h', fv, ov, a1, a2, a3, a4, a5, a6', a7', a8', a9, a10, a11, a12, a13, a14)) →
    wX_goOn_0 post N (nI l) oc (nI (h + Q.length)) (nI h) fv ov a1 a2 a3 a4 a5 a6 a7 a8 a9 a10 a11 a12 a13 a14 := by
  intro N
  induction N with
  | zero => intro Q lf h d a6 a7 a8 hN; exact absurd hN (by omega)
  | succ N ih =>
    intro Q lf h d a6 a7 a8 hN hq hp h8 hdl H1 H0 H2
    have hlen := tv_QP_len g hp
    cases Q with
    | nil => exact pk_le h h (fun _ => H1 (tv_Sol_nil _ hp.2.1) _ _ _ _ _) (fun z => absurd z (by omega))
    | cons p Q =>
      obtain ⟨c, m⟩ := p
      obtain ⟨q1, q2, q3⟩ := hq
      obtain ⟨p1, p2, p3⟩ := hp
      have hok : ok c ∧ m < 8 := p1 (c, m) List.mem_cons_self
      have pT : ∀ p, p ∈ Q → ok p.1 ∧ p.2 < 8 := fun p hp => p1 p (List.mem_cons_of_mem _ hp)
      obtain ⟨c18, t8, w1, gn, gb⟩ := g c hok.1
      rw [List.length_cons] at hlen hdl
      rw [tv_ws_c] at hN p3
      have hv3 : ∀ a k, tv_v l tk a k < 3 := tv_v3 l tk
      refine pk_le (h + (Q.length + 1)) h (fun z => absurd z (by omega)) (fun _ => ⟨pk_in h 32 (by omega), nm_r (e' := nI c) (by rw [nI_clamp (by omega)]; exact q1) ⟨pk_in c 18 c18, nm_r (e' := nI (tk c)) (by rw [nI_clamp (by omega)]; exact h1 c c18) ?_⟩⟩)
      have e7 : a7 (nI h).toNatClampNeg = nI m := by rw [nI_clamp (by omega)]; exact q2
      refine pk_lt (tk c) 4 (fun z4 => pk_eq (tk c) 0 (fun z0 => ⟨pk_in h 32 (by omega), tv_w_bn hl hok.2 e7 ?_⟩) (fun z0 => ?_)) (fun z4 => ?_)
      · have hs : ∀ a, tv_Sol (tv_v l tk) ((c, m) :: Q) lf a ↔ tv_Sol (tv_v l tk) (Q ++ [(c + 1, tv_bn l m)]) lf a := fun a => tv_Sol_not (hv3 a _) (tv_v_not c18 z0)
        obtain ⟨okn, wn⟩ := gn z0
        have hbl := tv_bn_lt l m
        refine pk_eq (tv_bn l m) 0 (fun zb => ?_) (fun zb => ?_) rfl rfl (by omega)
        · refine H0 ?_ _ _ _ _ _ (fun j _ => ⟨rfl, rfl⟩)
          rintro ⟨a, ha⟩
          have := (tv_Sol_app.mp ((hs a).mp ha)).2 (c + 1, tv_bn l m) (List.mem_singleton.mpr rfl)
          have t : (tv_bn l m).testBit (tv_v l tk a (c + 1)) = true := this
          rw [zb, Nat.zero_testBit] at t
          exact absurd t (by simp)
        · have el : h + 1 + (Q ++ [(c + 1, tv_bn l m)]).length = h + (Q.length + 1) + 1 := by rw [tv_len_a]; omega
          have hb1 := tv_b_not g hok.1 z0
          have key := ih (Q ++ [(c + 1, tv_bn l m)]) lf (h + 1) d (upd a6 (h + (Q.length + 1)) (nI (c + 1))) (upd a7 (h + (Q.length + 1)) (nI (tv_bn l m))) a8 (by rw [tv_ws_a]; omega) (tv_QM_push (c + 1) (tv_bn l m) (by omega) q3)
            ⟨fun p hp' => (List.mem_append.mp hp').elim (fun x => pT p x) (fun x => by rw [List.mem_singleton.mp x]; exact ⟨okn, hbl⟩), p2, by rw [tv_ws_a]; omega⟩ h8 (by rw [el]; omega)
            (fun ⟨a, ha⟩ => H1 ⟨a, (hs a).mpr ha⟩)
            (fun hne dm' hd' a6' a7' a8' hag => H0 (fun ⟨a, ha⟩ => hne ⟨a, (hs a).mp ha⟩) dm' hd' a6' a7' a8' (fun j hj => by
              have := hag j hj
              rw [pk_un (by omega), pk_un (by omega)] at this
              exact this))
            (fun Q' lf' h' a6' a7' a8' k1 k2 k3 k4 k5 k6 k7 k8 => H2 Q' lf' h' a6' a7' a8' k1 k2 k3 (fun a => (k4 a).trans (hs a).symm) (by rw [tv_bs_a] at k5; rw [tv_bs_c]; omega) k6 (fun j hj => by
              have := k7 j hj
              rw [pk_un (by omega), pk_un (by omega)] at this
              exact this) k8)
          rw [el] at key
          exact tv_w_demand (d := h + (Q.length + 1)) (by omega) (by omega) (by omega) (nI_1 c) rfl (nm_r (nI_1 h) key)
      · exact H2 ((c, m) :: Q) lf h a6 a7 a8 ⟨q1, q2, q3⟩ ⟨p1, p2, by rw [tv_ws_c]; exact p3⟩ h8 (fun a => Iff.rfl) (Nat.le_refl _) (by rw [List.length_cons]; exact hdl) (fun j _ => ⟨rfl, rfl⟩) ⟨c, m, Q, rfl, z0, z4⟩
      · have hk : tk c - 4 < 4 := by omega
        have hs : ∀ a, tv_Sol (tv_v l tk) ((c, m) :: Q) lf a ↔ tv_Sol (tv_v l tk) Q (tv_up lf (tk c - 4) (lf (tk c - 4) &&& m)) a := fun a => tv_Sol_let hk (tv_v_let c18 z4)
        have hand := tv_and8 (lf (tk c - 4)) (p2 _ hk).1 m hok.2
        refine nm_r (e' := nI (tk c - 4)) (pk_sub (a := tk c) (b := 4) z4) ⟨pk_in (tk c - 4) 4 hk, pk_in h 32 (by omega), pk_in (tk c - 4) 4 hk, nm_r (e' := upd a8 (tk c - 4) (nI (lf (tk c - 4) &&& m))) ?_ ⟨pk_in (tk c - 4) 4 hk, ?_⟩⟩
        · rw [e7, nI_clamp (by omega), h8 _ hk, hand.1, tv_b8 _ (by omega)]
        · refine pk_eq (lf (tk c - 4) &&& m) 0 (fun zz => ?_) (fun zz => nm_r (nI_1 h) ?_) (by rw [nI_clamp (by omega), pk_us]) rfl (by omega)
          · refine H0 ?_ _ _ _ _ _ (fun j _ => ⟨rfl, rfl⟩)
            rintro ⟨a, ha⟩
            exact tv_Sol_zero hk (by rw [tv_up_s]; exact zz) ⟨a, (hs a).mp ha⟩
          · have el : h + 1 + Q.length = h + (Q.length + 1) := by omega
            have key := ih Q (tv_up lf (tk c - 4) (lf (tk c - 4) &&& m)) (h + 1) d a6 a7 (upd a8 (tk c - 4) (nI (lf (tk c - 4) &&& m))) (by omega) q3
              ⟨pT, fun k hk4 => by
                by_cases e : k = tk c - 4
                · rw [e, tv_up_s]; exact ⟨hand.2, by omega⟩
                · rw [tv_up_n e]; exact p2 k hk4, by omega⟩
              (fun k hk4 => by
                by_cases e : k = tk c - 4
                · rw [e, tv_up_s, pk_us]
                · rw [tv_up_n e, pk_un e]; exact h8 k hk4)
              (by omega)
              (fun ⟨a, ha⟩ => H1 ⟨a, (hs a).mpr ha⟩)
              (fun hne dm' hd' a6' a7' a8' hag => H0 (fun ⟨a, ha⟩ => hne ⟨a, (hs a).mp ha⟩) dm' hd' a6' a7' a8' hag)
              (fun Q' lf' h' a6' a7' a8' k1 k2 k3 k4 k5 k6 k7 k8 => H2 Q' lf' h' a6' a7' a8' k1 k2 k3 (fun a => (k4 a).trans (hs a).symm) (by rw [tv_bs_c]; omega) k6 k7 k8)
            rw [el] at key
            exact key
end
section
/-! nextTurn: the next value of the first part -/
theorem tv_RF_3 {v : Nat → Nat → Nat} {Q : List (Nat × Nat)} {lf : Nat → Nat} (h3 : ∀ a k, v a k < 3) : ¬ tv_RF v Q lf 3 := by
  rintro ⟨a, _, h⟩
  have := h3 a (tv_hc Q + 1)
  omega
theorem tv_RF_take {v : Nat → Nat → Nat} {T : List (Nat × Nat)} {lf : Nat → Nat} {l t c s m x : Nat} (hx : x < 3) (h3 : ∀ a k, v a k < 3) (hv : ∀ a, v a c = tv_app l t (v a (c + 1)) (v a s)) :
    tv_RF v ((c, m) :: T) lf x ↔ (∃ a, tv_Sol v (T ++ [(c + 1, 2 ^ x)] ++ [(s, tv_pt l t x m)]) lf a) ∨ tv_RF v ((c, m) :: T) lf (x + 1) := by
  constructor
  · rintro ⟨a, ha, hxa⟩
    have hxa' : x ≤ v a (c + 1) := hxa
    by_cases e : v a (c + 1) = x
    · exact Or.inl ⟨a, (tv_Sol_bin hx (h3 _ _) (h3 _ _) (hv a)).mpr ⟨ha, e⟩⟩
    · exact Or.inr ⟨a, ha, (by omega : x + 1 ≤ v a (c + 1))⟩
  · rintro (⟨a, ha⟩ | ⟨a, ha, hxa⟩)
    · have := (tv_Sol_bin hx (h3 _ _) (h3 _ _) (hv a)).mp ha
      exact ⟨a, this.1, Nat.le_of_eq this.2.symm⟩
    · exact ⟨a, ha, Nat.le_of_succ_le hxa⟩
theorem tv_RF_skip {v : Nat → Nat → Nat} {T : List (Nat × Nat)} {lf : Nat → Nat} {l t c s m x : Nat} (hx : x < 3) (h3 : ∀ a k, v a k < 3) (hv : ∀ a, v a c = tv_app l t (v a (c + 1)) (v a s)) (h0 : tv_pt l t x m = 0) :
    tv_RF v ((c, m) :: T) lf x ↔ tv_RF v ((c, m) :: T) lf (x + 1) := by
  rw [tv_RF_take (s := s) hx h3 hv, h0]
  constructor
  · rintro (⟨a, ha⟩ | h)
    · have := (tv_Sol_app.mp ha).2 (s, 0) (List.mem_singleton.mpr rfl)
      have t : (0 : Nat).testBit (v a s) = true := this
      rw [Nat.zero_testBit] at t
      exact absurd t (by simp)
    · exact h
  · exact Or.inr
theorem tv_n68 {post : Int32 → St1 → Prop} {oc fv ov : Int32} {a1 a2 a3 a4 a5 a6 a7 a8 a9 a10 a11 a12 a13 a14 : Nat → Int32} {l : Nat} {tk : Nat → Nat} {ok : Nat → Prop} {k h D c m : Nat} {T : List (Nat × Nat)} {lf : Nat → Nat} (hl : l ≤ 2) (g : tv_G tk ok) (h1 : ∀ j, j < 18 → a1 j = nI (tk j)) (h3 : ∀ j, ok j → tk j ≠ 0 → tk j < 4 → a3 j = nI (tv_se tk j)) (hk : k < 12) (hc : ok c) (hm : m < 8) (t0 : tk c ≠ 0) (t4 : tk c < 4) (hh : h < 32) (hD : D < 31) (e7 : a7 h = nI m) :
    ∀ (N x : Nat), 3 - x < N → x ≤ 3 →
    ((¬ tv_RF (tv_v l tk) ((c, m) :: T) lf x) → post 0 (nI l, oc, nI D, nI h, fv, ov, a1, a2, a3, a4, a5, a6, a7, a8, a9, a10, a11, a12, a13, a14)) →
    (∀ y, x ≤ y → y < 3 → 0 < tv_pt l (tk c) y m → (tv_RF (tv_v l tk) ((c, m) :: T) lf x ↔ (∃ a, tv_Sol (tv_v l tk) (T ++ [(c + 1, 2 ^ y)] ++ [(tv_se tk c, tv_pt l (tk c) y m)]) lf a) ∨ tv_RF (tv_v l tk) ((c, m) :: T) lf (y + 1)) →
      post 1 (nI l, oc, nI (D + 1 + 1), nI (h + 1), fv, ov, a1, a2, a3, a4, a5, upd (upd a6 D (nI (c + 1))) (D + 1) (nI (tv_se tk c)), upd (upd a7 D (nI (2 ^ y))) (D + 1) (nI (tv_pt l (tk c) y m)), a8, a9, a10, a11, upd a12 k (nI y), a13, a14)) →
    wX_nextTurn_68 post (nI k) (nI c) (nI l) oc (nI D) (nI h) fv ov a1 a2 a3 a4 a5 a6 a7 a8 a9 a10 a11 a12 a13 a14 N (nI x) := by
  obtain ⟨c18, t8, _, _, gb⟩ := g c hc
  obtain ⟨ok1, ok2, _⟩ := gb t0 t4
  have s18 := (g _ ok2).1
  have hv : ∀ a, tv_v l tk a c = tv_app l (tk c) (tv_v l tk a (c + 1)) (tv_v l tk a (tv_se tk c)) := fun a => tv_v_bin c18 t0 t4
  intro N
  induction N with
  | zero => intro x hN; exact absurd hN (by omega)
  | succ N ih =>
    intro x hN hx3 H0 H1
    refine pk_le 3 x (fun z => ?_) (fun z => ⟨pk_in c 18 c18, pk_in h 32 hh, tv_w_pt (t := tk c) (x := x) (m := m) hl hm t8 z (by rw [nI_clamp (by omega)]; exact h1 c c18) rfl (by rw [nI_clamp (by omega)]; exact e7) ?_⟩)
    · have e : x = 3 := by omega
      subst e
      exact H0 (tv_RF_3 (tv_v3 l tk))
    · have hlt := tv_pt_lt l (tk c) x m
      refine pk_eq (tv_pt l (tk c) x m) 0 (fun zb => nm_r (nI_1 x) ?_) (fun zb => ⟨pk_in k 12 hk, nm_r (e' := upd a12 k (nI x)) (by rw [nI_clamp (by omega), tv_b8 x (by omega)]) ?_⟩) rfl rfl (by omega)
      · have es := tv_RF_skip (T := T) (lf := lf) (s := tv_se tk c) z (tv_v3 l tk) hv zb
        exact ih (x + 1) (by omega) (by omega) (fun hn => H0 (fun hr => hn (es.mp hr))) (fun y hy hy3 hp hi => H1 y (by omega) hy3 hp (es.trans hi))
      · have p2 := tv_p2lt x z
        refine tv_w_demand (d := D) (c := c + 1) (m := 2 ^ x) (by omega) (by omega) (by omega) (nI_1 c) (tv_sh x z) ⟨pk_in c 18 c18, ?_⟩
        refine tv_w_demand (d := D + 1) (c := tv_se tk c) (m := tv_pt l (tk c) x m) (by omega) (by omega) (by omega) (by rw [nI_clamp (by omega)]; exact h3 c hc t0 t4) rfl (nm_r (nI_1 h) ?_)
        exact H1 x (Nat.le_refl x) z (by omega) (tv_RF_take z (tv_v3 l tk) hv)
theorem tv_nt {post : Int32 → St1 → Prop} {oc dm hd fv ov : Int32} {a1 a2 a3 a4 a5 a6 a7 a8 a9 a10 a11 a12 a13 a14 : Nat → Int32} {l : Nat} {tk : Nat → Nat} {ok : Nat → Prop} {k h tr c m : Nat} {T : List (Nat × Nat)} {lf : Nat → Nat} {p : Int32} (hl : l ≤ 2) (g : tv_G tk ok) (h1 : ∀ j, j < 18 → a1 j = nI (tk j)) (h3 : ∀ j, ok j → tk j ≠ 0 → tk j < 4 → a3 j = nI (tv_se tk j)) (hk : k < 12) (hp : p = nI k)
    (e9 : a9 k = nI (h + (T.length + 1))) (e10 : a10 k = nI h) (e11 : ∀ j, j < 4 → a11 (k * 4 + j) = nI (lf j)) (e12 : a12 k + 1 = nI tr) (hq : tv_QM a6 a7 ((c, m) :: T) h) (hP : tv_QP tk ok h ((c, m) :: T) lf) (htr : tr ≤ 3) (t0 : tk c ≠ 0) (t4 : tk c < 4)
    (H0 : (¬ tv_RF (tv_v l tk) ((c, m) :: T) lf tr) → ∀ (dm' hd' : Int32) (a8' : Nat → Int32), post 0 (nI l, oc, dm', hd', fv, ov, a1, a2, a3, a4, a5, a6, a7, a8', a9, a10, a11, a12, a13, a14))
    (H1 : ∀ (y : Nat) (a8' : Nat → Int32), tr ≤ y → y < 3 → 0 < tv_pt l (tk c) y m → (∀ j, j < 4 → a8' j = nI (lf j)) → (tv_RF (tv_v l tk) ((c, m) :: T) lf tr ↔ (∃ a, tv_Sol (tv_v l tk) (T ++ [(c + 1, 2 ^ y)] ++ [(tv_se tk c, tv_pt l (tk c) y m)]) lf a) ∨ tv_RF (tv_v l tk) ((c, m) :: T) lf (y + 1)) →
      post 1 (nI l, oc, nI (h + (T.length + 1) + 1 + 1), nI (h + 1), fv, ov, a1, a2, a3, a4, a5, upd (upd a6 (h + (T.length + 1)) (nI (c + 1))) (h + (T.length + 1) + 1) (nI (tv_se tk c)), upd (upd a7 (h + (T.length + 1)) (nI (2 ^ y))) (h + (T.length + 1) + 1) (nI (tv_pt l (tk c) y m)), a8', a9, a10, a11, upd a12 k (nI y), a13, a14)) :
    wpX_nextTurn post (nI l, oc, dm, hd, fv, ov, a1, a2, a3, a4, a5, a6, a7, a8, a9, a10, a11, a12, a13, a14) p := by
  subst hp
  obtain ⟨q1, q2, q3⟩ := hq
  have hlen := tv_QP_len g hP
  rw [List.length_cons] at hlen
  have hok : ok c ∧ m < 8 := hP.1 (c, m) List.mem_cons_self
  refine ⟨pk_in k 12 hk, nm_r (e' := nI (h + (T.length + 1))) (by rw [nI_clamp (by omega)]; exact e9) ⟨pk_in k 12 hk, nm_r (e' := nI h) (by rw [nI_clamp (by omega)]; exact e10) ?_⟩⟩
  refine pk_loop (fun n i s => wX_nextTurn_22 post (nI k) (nI l) oc (nI (h + (T.length + 1))) (nI h) fv ov n (nI i) a1 a2 a3 a4 a5 a6 a7 s a9 a10 a11 a12 a13 a14) (fun i s => ∀ j, j < i → s j = nI (lf j)) 4 0 a8 (by omega) (fun j hj => absurd hj (by omega)) ?_ ?_
  · intro n s hs
    refine pk_le 4 4 (fun _ => ⟨pk_in h 32 (by omega), nm_r (e' := nI c) (by rw [nI_clamp (by omega)]; exact q1) ⟨pk_in k 12 hk, nm_r (e' := nI tr) (by rw [nI_clamp (by omega)]; exact e12) ⟨4, ?_⟩⟩⟩) (fun z => absurd z (by omega))
    exact tv_n68 hl g h1 h3 hk hok.1 hok.2 t0 t4 (by omega) (by omega) q2 4 tr (by omega) htr (fun hn => H0 hn _ _ s) (fun y hy hy3 hpt hi => H1 y s hy hy3 hpt hs hi)
  · intro n i s hi hs hw
    refine pk_le 4 i (fun z => absurd z (by omega)) (fun _ => ⟨pk_in (k * 4 + i) 48 (by omega) (tv_k4 k i), pk_in i 4 hi, nm_r (e' := upd s i (nI (lf i))) (by rw [tv_k4, nI_clamp (by omega), nI_clamp (by omega), e11 i hi, tv_nar (by have := (hP.2.1 i hi).1; omega)]) (nm_r (nI_1 i) (hw _ ?_))⟩)
    intro j hj
    by_cases e : j = i
    · rw [e, pk_us]
    · rw [pk_un e]
      exact hs j (by omega)
end
section
/-! meets: the search over branches -/
def tv_I81 (l : Nat) (tk : Nat → Nat) (ok : Nat → Prop) (Sat : Prop) (lev : Nat) (x2 : Int32) (rd B : Nat) (dm hd : Int32) (a6 a7 a8 a9 a10 a11 a12 : Nat → Int32) : Prop :=
  (x2 = 1 ∧ Sat ∧ rd ≤ 9840 ∧ 0 < B) ∨
  (x2 = 0 ∧ ∃ (fr : List tv_Fr) (d : Nat), fr.length = lev ∧ tv_FM a6 a7 a9 a10 a11 a12 fr ∧ tv_FP tk ok fr d ∧ (Sat ↔ tv_Rem (tv_v l tk) fr) ∧ rd + tv_Phi tk fr ≤ 9840 ∧ tv_Phi tk fr < B) ∨
  (x2 = 2 ∧ ∃ (fr : List tv_Fr) (h : Nat) (Q : List (Nat × Nat)) (lf : Nat → Nat), fr.length = lev ∧ tv_FM a6 a7 a9 a10 a11 a12 fr ∧ tv_FP tk ok fr (h + Q.length) ∧ dm = nI (h + Q.length) ∧ hd = nI h ∧ tv_QM a6 a7 Q h ∧ tv_QP tk ok h Q lf ∧ (∀ k, k < 4 → a8 k = nI (lf k)) ∧ tv_bin tk Q ∧ (Sat ↔ (∃ a, tv_Sol (tv_v l tk) Q lf a) ∨ tv_Rem (tv_v l tk) fr) ∧ lev + tv_bs tk Q ≤ 8 ∧ rd + 3 * tv_t (tv_bs tk Q) + tv_Phi tk fr ≤ 9840 ∧ 3 * tv_t (tv_bs tk Q) + tv_Phi tk fr < B)
theorem tv_t_step {b b' : Nat} (h : b' + 1 ≤ b) : 3 * tv_t b' + 1 ≤ tv_t b := by
  have := tv_t_mono h
  have e : tv_t (b' + 1) = 1 + 3 * tv_t b' := rfl
  omega
theorem tv_phi_step {tr y X Y P : Nat} (h1 : tr ≤ y) (h2 : y < 3) (hY : Y + 1 ≤ X) : Y + ((3 - (y + 1)) * X + P) < (3 - tr) * X + P := by
  have h : (3 - (y + 1) + 1) * X ≤ (3 - tr) * X := Nat.mul_le_mul_right X (by omega)
  rw [Nat.succ_mul] at h
  omega
theorem tv_FP_len {tk : Nat → Nat} {ok : Nat → Prop} : ∀ {fr : List tv_Fr} {d : Nat}, tv_G tk ok → tv_FP tk ok fr d → fr.length ≤ 8 := by
  intro fr d g hp
  cases fr with
  | nil => exact (by decide : 0 ≤ 8)
  | cons f r =>
    obtain ⟨h, Q, lf, tr⟩ := f
    obtain ⟨p1, p2, p3, p4, ⟨c, m, T, rfl, t0, t4⟩, p6⟩ := hp
    have hokc : ok c := (p2.1 (c, m) List.mem_cons_self).1
    have hb := tv_b_bin g hokc t0 t4
    rw [tv_bs_c] at p3
    rw [List.length_cons]
    omega
theorem tv_110 {post : Int32 → St1 → Prop} {J : Int32 → Int32 → Int32 → Int32 → Int32 → Int32 → Int32 → Int32 → Int32 → (Nat → Int32) → (Nat → Int32) → (Nat → Int32) → (Nat → Int32) → (Nat → Int32) → (Nat → Int32) → (Nat → Int32) → (Nat → Int32) → (Nat → Int32) → (Nat → Int32) → (Nat → Int32) → (Nat → Int32) → (Nat → Int32) → (Nat → Int32) → Prop} {oc fv ov : Int32} {a1 a2 a3 a4 a5 a13 a14 : Nat → Int32} {l : Nat} {tk : Nat → Nat} {ok : Nat → Prop} {Sat : Prop} {rd B : Nat} (hl : l ≤ 2) (g : tv_G tk ok) (h1 : ∀ j, j < 18 → a1 j = nI (tk j)) (h3 : ∀ j, ok j → tk j ≠ 0 → tk j < 4 → a3 j = nI (tv_se tk j))
    (Hn : ¬ Sat → ∀ (dm' hd' : Int32) (a6' a7' a8' a9' a10' a11' a12' : Nat → Int32), post 0 (nI l, oc, dm', hd', fv, ov, a1, a2, a3, a4, a5, a6', a7', a8', a9', a10', a11', a12', a13, a14))
    (HJ : ∀ (lev : Nat) (x2 : Int32) (dm' hd' : Int32) (a6' a7' a8' a9' a10' a11' a12' : Nat → Int32), lev ≤ 8 → tv_I81 l tk ok Sat lev x2 (rd + 1) B dm' hd' a6' a7' a8' a9' a10' a11' a12' → J (nI lev) x2 (nI (rd + 1)) (nI l) oc dm' hd' fv ov a1 a2 a3 a4 a5 a6' a7' a8' a9' a10' a11' a12' a13 a14) :
    ∀ (fr : List tv_Fr) (N d : Nat) (dm hd : Int32) (a6 a7 a8 a9 a10 a11 a12 : Nat → Int32), fr.length + 2 ≤ N → tv_FM a6 a7 a9 a10 a11 a12 fr → tv_FP tk ok fr d → (Sat ↔ tv_Rem (tv_v l tk) fr) → rd + tv_Phi tk fr ≤ 9840 → tv_Phi tk fr ≤ B →
    wX_meets_110 post J (nI rd) N (nI fr.length) 0 (nI l) oc dm hd fv ov a1 a2 a3 a4 a5 a6 a7 a8 a9 a10 a11 a12 a13 a14 := by
  intro fr
  induction fr with
  | nil =>
    intro N d dm hd a6 a7 a8 a9 a10 a11 a12 hN hm hp hS hr hB
    obtain ⟨n, rfl⟩ : ∃ n, N = n + 1 := ⟨N - 1, by have : 0 + 2 ≤ N := hN; omega⟩
    have hns : ¬ Sat := fun s => hS.mp s
    exact pk_le 0 0 (fun _ => br_t rfl (Hn hns dm hd a6 a7 a8 a9 a10 a11 a12)) (fun z => absurd z (by omega))
  | cons f r ih =>
    obtain ⟨h, Q, lf, tr⟩ := f
    intro N d dm hd a6 a7 a8 a9 a10 a11 a12 hN hm hp hS hr hB
    have hlen8 := tv_FP_len g hp
    rw [List.length_cons] at hN hlen8
    obtain ⟨n, rfl⟩ : ∃ n, N = n + 1 + 1 := ⟨N - 2, by omega⟩
    obtain ⟨m1, m2, m3, m4, m5, m6⟩ := hm
    obtain ⟨p1, p2, p3, p4, ⟨c, m, T, rfl, t0, t4⟩, p6⟩ := hp
    have hphi : tv_Phi tk ((h, (c, m) :: T, lf, tr) :: r) = (3 - tr) * tv_t (tv_bs tk ((c, m) :: T)) + tv_Phi tk r := rfl
    rw [hphi] at hr hB
    have hrem : tv_Rem (tv_v l tk) ((h, (c, m) :: T, lf, tr) :: r) ↔ tv_RF (tv_v l tk) ((c, m) :: T) lf tr ∨ tv_Rem (tv_v l tk) r := Iff.rfl
    have hokc : ok c ∧ m < 8 := p2.1 (c, m) List.mem_cons_self
    obtain ⟨c18, t8, w1, gn, gb⟩ := g c hokc.1
    obtain ⟨ok1, ok2, ew⟩ := gb t0 t4
    have hbb := tv_b_bin g hokc.1 t0 t4
    have hlenQ := tv_QP_len g p2
    rw [List.length_cons] at hlenQ p1
    refine pk_le (r.length + 1) 0 (fun z => absurd z (by omega)) (fun _ => br_t rfl ?_)
    refine tv_nt (k := r.length) (h := h) (tr := tr) (c := c) (m := m) (T := T) (lf := lf) hl g h1 h3 (by omega) (nI_pred r.length) m1 m2 m3 m4 m5 p2 p4 t0 t4 ?_ ?_
    · intro hrf dm' hd' a8'
      exact br_t rfl (nm_r (pk_m1 r.length) (ih (n + 1) _ dm' hd' a6 a7 a8' a9 a10 a11 a12 (by omega) m6 p6 (hS.trans (hrem.trans ⟨fun x => x.elim (fun y => absurd y hrf) (fun y => y), Or.inr⟩)) (by omega) (by omega)))
    · intro y a8' hy hy3 hpt h8' hrf
      have hD : h + (T.length + 1) = h + ((c, m) :: T).length := by rw [List.length_cons]
      refine br_f (by decide) (pk_le (r.length + 1) 0 (fun z => absurd z (by omega)) (fun _ => br_f (by decide) (br_f (by decide) ⟨19, ?_⟩)))
      have hptl := tv_pt_lt l (tk c) y m
      have hp2 := tv_p2lt y hy3
      have hbs : tv_bs tk (T ++ [(c + 1, 2 ^ y)] ++ [(tv_se tk c, tv_pt l (tk c) y m)]) + 1 ≤ tv_bs tk ((c, m) :: T) := by
        rw [tv_bs_a, tv_bs_a, tv_bs_c]; omega
      have hws : tv_ws tk (T ++ [(c + 1, 2 ^ y)] ++ [(tv_se tk c, tv_pt l (tk c) y m)]) + 1 = tv_ws tk ((c, m) :: T) := by
        rw [tv_ws_a, tv_ws_a, tv_ws_c]; omega
      have el : h + 1 + (T ++ [(c + 1, 2 ^ y)] ++ [(tv_se tk c, tv_pt l (tk c) y m)]).length = h + (T.length + 1) + 1 + 1 := by rw [tv_len_a, tv_len_a]; omega
      have hQ2 : tv_QM (upd (upd a6 (h + (T.length + 1)) (nI (c + 1))) (h + (T.length + 1) + 1) (nI (tv_se tk c))) (upd (upd a7 (h + (T.length + 1)) (nI (2 ^ y))) (h + (T.length + 1) + 1) (nI (tv_pt l (tk c) y m))) (T ++ [(c + 1, 2 ^ y)] ++ [(tv_se tk c, tv_pt l (tk c) y m)]) (h + 1) :=
        tv_QM_push _ _ (by rw [tv_len_a]; omega) (tv_QM_push _ _ (by omega) m5.2.2)
      have hP2 : tv_QP tk ok (h + 1) (T ++ [(c + 1, 2 ^ y)] ++ [(tv_se tk c, tv_pt l (tk c) y m)]) lf := by
        refine ⟨fun p hp' => ?_, p2.2.1, by have := p2.2.2; omega⟩
        rcases List.mem_append.mp hp' with x | x
        · rcases List.mem_append.mp x with x | x
          · exact p2.1 p (List.mem_cons_of_mem _ x)
          · rw [List.mem_singleton.mp x]; exact ⟨ok1, hp2.1⟩
        · rw [List.mem_singleton.mp x]; exact ⟨ok2, hptl⟩
      have hag : ∀ j, j < h + (T.length + 1) → upd (upd a6 (h + (T.length + 1)) (nI (c + 1))) (h + (T.length + 1) + 1) (nI (tv_se tk c)) j = a6 j ∧ upd (upd a7 (h + (T.length + 1)) (nI (2 ^ y))) (h + (T.length + 1) + 1) (nI (tv_pt l (tk c) y m)) j = a7 j := by
        intro j hj
        rw [pk_un (by omega), pk_un (by omega), pk_un (by omega), pk_un (by omega)]
        exact ⟨rfl, rfl⟩
      have hFP : tv_FP tk ok ((h, (c, m) :: T, lf, y + 1) :: r) (h + (T.length + 1)) := ⟨Nat.le_refl _, p2, p3, by omega, ⟨c, m, T, rfl, t0, t4⟩, p6⟩
      have hFM : ∀ a6' a7' : Nat → Int32, (∀ j, j < h + (T.length + 1) → a6' j = upd (upd a6 (h + (T.length + 1)) (nI (c + 1))) (h + (T.length + 1) + 1) (nI (tv_se tk c)) j ∧ a7' j = upd (upd a7 (h + (T.length + 1)) (nI (2 ^ y))) (h + (T.length + 1) + 1) (nI (tv_pt l (tk c) y m)) j) → tv_FM a6' a7' a9 a10 a11 (upd a12 r.length (nI y)) ((h, (c, m) :: T, lf, y + 1) :: r) := by
        intro a6' a7' hj
        refine tv_FM_ag hFP (a6 := a6) (a7 := a7) (fun j hj' => ?_) ⟨m1, m2, m3, by rw [pk_us, nI_1], m5, tv_FM_up (fun j hj' => ⟨rfl, rfl, pk_un (by omega)⟩) (fun j _ => rfl) m6⟩
        have k1 := hj j hj'
        have k2 := hag j hj'
        exact ⟨k1.1.trans k2.1, k1.2.trans k2.2⟩
      have hphi' : tv_Phi tk ((h, (c, m) :: T, lf, y + 1) :: r) = (3 - (y + 1)) * tv_t (tv_bs tk ((c, m) :: T)) + tv_Phi tk r := rfl
      have hstep := tv_phi_step (P := tv_Phi tk r) hy hy3 (tv_t_step hbs)
      have hrem' : tv_Rem (tv_v l tk) ((h, (c, m) :: T, lf, y + 1) :: r) ↔ tv_RF (tv_v l tk) ((c, m) :: T) lf (y + 1) ∨ tv_Rem (tv_v l tk) r := Iff.rfl
      have hSat : Sat ↔ (∃ a, tv_Sol (tv_v l tk) (T ++ [(c + 1, 2 ^ y)] ++ [(tv_se tk c, tv_pt l (tk c) y m)]) lf a) ∨ tv_Rem (tv_v l tk) ((h, (c, m) :: T, lf, y + 1) :: r) := by
        rw [hS, hrem, hrf, hrem', or_assoc]
      have hlr : ((h, (c, m) :: T, lf, y + 1) :: r : List tv_Fr).length = r.length + 1 := rfl
      have key := tv_go (post := fun r_58 u => match u with | (lg, oc, dm, hd, fv, ov, a1, a2, a3, a4, a5, a6, a7, a8, a9, a10, a11, a12, a13, a14) => ∀ x3_107 : Int32, x3_107 = nI rd + 1 → J (nI (r.length + 1)) r_58 x3_107 lg oc dm hd fv ov a1 a2 a3 a4 a5 a6 a7 a8 a9 a10 a11 a12 a13 a14) (oc := oc) (fv := fv) (ov := ov) (a1 := a1) (a2 := a2) (a3 := a3) (a4 := a4) (a5 := a5) (a9 := a9) (a10 := a10) (a11 := a11) (a12 := upd a12 r.length (nI y)) (a13 := a13) (a14 := a14) hl g h1 19 (T ++ [(c + 1, 2 ^ y)] ++ [(tv_se tk c, tv_pt l (tk c) y m)]) lf (h + 1) (h + (T.length + 1)) _ _ a8' (by have := p2.2.2; omega) hQ2 hP2 h8' (by omega)
        (fun hex dm' hd' a6' a7' a8' => nm_r (nI_1 rd) (HJ (r.length + 1) 1 dm' hd' a6' a7' a8' a9 a10 a11 (upd a12 r.length (nI y)) (by omega) (Or.inl ⟨rfl, hSat.mpr (Or.inl hex), by omega, by omega⟩)))
        (fun hne dm' hd' a6' a7' a8' hj => nm_r (nI_1 rd) (HJ (r.length + 1) 0 dm' hd' a6' a7' a8' a9 a10 a11 (upd a12 r.length (nI y)) (by omega) (Or.inr (Or.inl ⟨rfl, (h, (c, m) :: T, lf, y + 1) :: r, h + (T.length + 1), hlr, hFM a6' a7' hj, hFP, hSat.trans ⟨fun x => x.elim (fun x => absurd x hne) (fun x => x), Or.inr⟩, by omega, by omega⟩))))
        (fun Q' lf' h' a6' a7' a8' k1 k2 k3 k4 k5 k6 k7 k8 => nm_r (nI_1 rd) (HJ (r.length + 1) 2 _ _ a6' a7' a8' a9 a10 a11 (upd a12 r.length (nI y)) (by omega) (Or.inr (Or.inr ⟨rfl, (h, (c, m) :: T, lf, y + 1) :: r, h', Q', lf', hlr, hFM a6' a7' k7, tv_FP_mono k6 hFP, rfl, rfl, k1, k2, k3, k8, hSat.trans ⟨fun x => x.elim (fun ⟨a, ha⟩ => Or.inl ⟨a, (k4 a).mpr ha⟩) Or.inr, fun x => x.elim (fun ⟨a, ha⟩ => Or.inl ⟨a, (k4 a).mp ha⟩) Or.inr⟩, by omega, by have := tv_t_mono k5; omega, by have := tv_t_mono k5; omega⟩))))
      rw [el] at key
      exact key
theorem tv_81 {post : Int32 → St1 → Prop} {oc fv ov : Int32} {a1 a2 a3 a4 a5 a13 a14 : Nat → Int32} {l : Nat} {tk : Nat → Nat} {ok : Nat → Prop} {Sat : Prop} (hl : l ≤ 2) (g : tv_G tk ok) (h1 : ∀ j, j < 18 → a1 j = nI (tk j)) (h3 : ∀ j, ok j → tk j ≠ 0 → tk j < 4 → a3 j = nI (tv_se tk j))
    (Hp : Sat → ∀ (dm' hd' : Int32) (a6' a7' a8' a9' a10' a11' a12' : Nat → Int32), post 1 (nI l, oc, dm', hd', fv, ov, a1, a2, a3, a4, a5, a6', a7', a8', a9', a10', a11', a12', a13, a14)) (Hn : ¬ Sat → ∀ (dm' hd' : Int32) (a6' a7' a8' a9' a10' a11' a12' : Nat → Int32), post 0 (nI l, oc, dm', hd', fv, ov, a1, a2, a3, a4, a5, a6', a7', a8', a9', a10', a11', a12', a13, a14)) :
    ∀ (N rd lev : Nat) (x2 : Int32) (dm hd : Int32) (a6 a7 a8 a9 a10 a11 a12 : Nat → Int32), lev ≤ 8 → tv_I81 l tk ok Sat lev x2 rd N dm hd a6 a7 a8 a9 a10 a11 a12 → wX_meets_81 post N (nI lev) x2 (nI rd) (nI l) oc dm hd fv ov a1 a2 a3 a4 a5 a6 a7 a8 a9 a10 a11 a12 a13 a14 := by
  intro N
  induction N with
  | zero =>
    intro rd lev x2 dm hd a6 a7 a8 a9 a10 a11 a12 hlev hI
    rcases hI with ⟨_, _, _, h⟩ | ⟨_, fr, d, _, _, _, _, _, h⟩ | ⟨_, fr, h', Q, lf, _, _, _, _, _, _, _, _, _, _, _, _, h⟩
    · exact absurd h (by omega)
    · exact absurd h (by omega)
    · exact absurd h (by omega)
  | succ N ih =>
    intro rd lev x2 dm hd a6 a7 a8 a9 a10 a11 a12 hlev hI
    have HJ : ∀ (lev : Nat) (x2 : Int32) (dm' hd' : Int32) (a6' a7' a8' a9' a10' a11' a12' : Nat → Int32), lev ≤ 8 → tv_I81 l tk ok Sat lev x2 (rd + 1) N dm' hd' a6' a7' a8' a9' a10' a11' a12' → wX_meets_81 post N (nI lev) x2 (nI (rd + 1)) (nI l) oc dm' hd' fv ov a1 a2 a3 a4 a5 a6' a7' a8' a9' a10' a11' a12' a13 a14 := fun lev x2 dm' hd' a6' a7' a8' a9' a10' a11' a12' hv hi => ih (rd + 1) lev x2 dm' hd' a6' a7' a8' a9' a10' a11' a12' hv hi
    rcases hI with ⟨rfl, hs, hrd, h⟩ | ⟨rfl, fr, d, rfl, hm, hp, hS, hr, hB⟩ | ⟨rfl, fr, h, Q, lf, rfl, hm, hp, rfl, rfl, hq, hQP, h8, hbin, hS, hb8, hr, hB⟩
    · exact pk_le 32768 rd (fun z => absurd z (by omega)) (fun _ => br_t rfl (Hp hs dm hd a6 a7 a8 a9 a10 a11 a12))
    · refine pk_le 32768 rd (fun z => absurd z (by omega)) (fun _ => br_f (by decide) (br_f (by decide) ⟨fr.length + 2, ?_⟩))
      exact tv_110 (B := N) hl g h1 h3 Hn HJ fr (fr.length + 2) d dm hd a6 a7 a8 a9 a10 a11 a12 (Nat.le_refl _) hm hp hS hr (by omega)
    · have hlq := tv_QP_len g hQP
      refine pk_le 32768 rd (fun z => absurd z (by omega)) (fun _ => br_f (by decide) (br_t rfl ?_))
      refine tv_w_open (k := fr.length) (d := h + Q.length) (h := h) (lf := lf) (by omega) (by omega) (by omega) h8 (fun k hk => by have := (hQP.2.1 k hk).1; omega) (fun a11' k1 k2 => nm_r (nI_1 fr.length) ⟨fr.length + 1 + 2, ?_⟩)
      have hphi : tv_Phi tk ((h, Q, lf, 0) :: fr) = 3 * tv_t (tv_bs tk Q) + tv_Phi tk fr := rfl
      refine tv_110 (B := N) hl g h1 h3 Hn HJ ((h, Q, lf, 0) :: fr) (fr.length + 1 + 2) (h + Q.length) _ _ a6 a7 a8 _ _ a11' _ (Nat.le_refl _) ⟨pk_us, pk_us, k2, ?_, hq, tv_FM_up (fun j hj => ⟨pk_un (by omega), pk_un (by omega), pk_un (by omega)⟩) k1 hm⟩ ⟨Nat.le_refl _, hQP, hb8, by omega, hbin, hp⟩ (hS.trans ?_) (by rw [hphi]; omega) (by rw [hphi]; omega)
      · rw [pk_us]
        decide
      · exact ⟨fun x => x.elim (fun ⟨a, ha⟩ => Or.inl ⟨a, ha, Nat.zero_le _⟩) Or.inr, fun x => x.elim (fun ⟨a, ha, _⟩ => Or.inl ⟨a, ha⟩) Or.inr⟩
/-- the demands on both formulas can be met with the values open to the letters -/
def tv_Sat (l : Nat) (tk : Nat → Nat) (F O : Nat) (op : Nat → Nat) : Prop := ∃ a, tv_free op a ∧ F.testBit (tv_v l tk a 0) = true ∧ O.testBit (tv_v l tk a 9) = true
theorem tv_49 {post : Int32 → St1 → Prop} {oc fv ov : Int32} {a1 a2 a3 a4 a5 a13 a14 : Nat → Int32} {l : Nat} {tk : Nat → Nat} {ok : Nat → Prop} {op : Nat → Nat} {Q : List (Nat × Nat)} {a6 a7 a8 a9 a10 a11 a12 : Nat → Int32} (hl : l ≤ 2) (g : tv_G tk ok) (h1 : ∀ j, j < 18 → a1 j = nI (tk j)) (h3 : ∀ j, ok j → tk j ≠ 0 → tk j < 4 → a3 j = nI (tv_se tk j))
    (h13 : ∀ k, k < 4 → a13 k = nI (op k)) (hq : tv_QM a6 a7 Q 0) (hP : tv_QP tk ok 0 Q op) (hb : tv_bs tk Q ≤ 8)
    (Hp : (∃ a, tv_Sol (tv_v l tk) Q op a) → ∀ (dm' hd' : Int32) (a6' a7' a8' a9' a10' a11' a12' : Nat → Int32), post 1 (nI l, oc, dm', hd', fv, ov, a1, a2, a3, a4, a5, a6', a7', a8', a9', a10', a11', a12', a13, a14)) (Hn : (¬ ∃ a, tv_Sol (tv_v l tk) Q op a) → ∀ (dm' hd' : Int32) (a6' a7' a8' a9' a10' a11' a12' : Nat → Int32), post 0 (nI l, oc, dm', hd', fv, ov, a1, a2, a3, a4, a5, a6', a7', a8', a9', a10', a11', a12', a13, a14)) :
    ∃ n, wX_meets_49 post (nI l) oc (nI Q.length) 0 fv ov n 0 a1 a2 a3 a4 a5 a6 a7 a8 a9 a10 a11 a12 a13 a14 := by
  refine pk_loop (fun n i s => wX_meets_49 post (nI l) oc (nI Q.length) 0 fv ov n (nI i) a1 a2 a3 a4 a5 a6 a7 s a9 a10 a11 a12 a13 a14) (fun i s => ∀ j, j < i → s j = nI (op j)) 4 0 a8 (by omega) (fun j hj => absurd hj (by omega)) ?_ ?_
  · intro n s hs
    refine pk_le 4 4 (fun _ => ⟨19, ?_⟩) (fun z => absurd z (by omega))
    have e0 : 0 + Q.length = Q.length := by omega
    have ht := tv_t_mono hb
    have ht8 : tv_t 8 = 3280 := by decide
    have key := tv_go (post := fun r_4 u => match u with | (lg, oc, dm, hd, fv, ov, a1, a2, a3, a4, a5, a6, a7, a8, a9, a10, a11, a12, a13, a14) => ∃ fu81 : Nat, wX_meets_81 post fu81 0 r_4 0 lg oc dm hd fv ov a1 a2 a3 a4 a5 a6 a7 a8 a9 a10 a11 a12 a13 a14) (oc := oc) (fv := fv) (ov := ov) (a1 := a1) (a2 := a2) (a3 := a3) (a4 := a4) (a5 := a5) (a9 := a9) (a10 := a10) (a11 := a11) (a12 := a12) (a13 := a13) (a14 := a14) hl g h1 19 Q op 0 0 a6 a7 s (by have := hP.2.2; omega) hq hP hs (by omega)
      (fun hex dm' hd' a6' a7' a8' => ⟨9841, tv_81 (Sat := ∃ a, tv_Sol (tv_v l tk) Q op a) hl g h1 h3 Hp Hn 9841 0 0 1 dm' hd' a6' a7' a8' a9 a10 a11 a12 (by omega) (Or.inl ⟨rfl, hex, by omega, by omega⟩)⟩)
      (fun hne dm' hd' a6' a7' a8' _ => ⟨9841, tv_81 (Sat := ∃ a, tv_Sol (tv_v l tk) Q op a) hl g h1 h3 Hp Hn 9841 0 0 0 dm' hd' a6' a7' a8' a9 a10 a11 a12 (by omega) (Or.inr (Or.inl ⟨rfl, [], 0, rfl, trivial, trivial, ⟨fun x => hne x, fun x => False.elim x⟩, (by decide : 0 + 0 ≤ 9840), (by decide : 0 < 9841)⟩))⟩)
      (fun Q' lf' h' a6' a7' a8' k1 k2 k3 k4 k5 k6 k7 k8 => ⟨9841, tv_81 (Sat := ∃ a, tv_Sol (tv_v l tk) Q op a) hl g h1 h3 Hp Hn 9841 0 0 2 _ _ a6' a7' a8' a9 a10 a11 a12 (by omega) (Or.inr (Or.inr ⟨rfl, [], h', Q', lf', rfl, trivial, trivial, rfl, rfl, k1, k2, k3, k8, ⟨fun ⟨a, ha⟩ => Or.inl ⟨a, (k4 a).mpr ha⟩, fun x => x.elim (fun ⟨a, ha⟩ => ⟨a, (k4 a).mp ha⟩) (fun y => False.elim y)⟩, by omega, (by have := tv_t_mono k5; show 0 + 3 * tv_t (tv_bs tk Q') + 0 ≤ 9840; omega), (by have := tv_t_mono k5; show 3 * tv_t (tv_bs tk Q') + 0 < 9841; omega)⟩))⟩)
    rw [e0] at key
    exact key
  · intro n i s hi hs hw
    refine pk_le 4 i (fun z => absurd z (by omega)) (fun _ => ⟨pk_in i 4 hi, pk_in i 4 hi, nm_r (e' := upd s i (nI (op i))) (by rw [nI_clamp (by omega), h13 i hi, tv_nar (by have := (hP.2.1 i hi).1; omega)]) (nm_r (nI_1 i) (hw _ ?_))⟩)
    intro j hj
    by_cases e : j = i
    · rw [e, pk_us]
    · rw [pk_un e]
      exact hs j (by omega)
theorem tv_7v (l : Nat) (tk : Nat → Nat) (a c : Nat) : (7 : Nat).testBit (tv_v l tk a c) = true := tv_7 _ (tv_v3 l tk a c)
theorem tv_meets {post : Int32 → St1 → Prop} {oc dm hd : Int32} {a1 a2 a3 a4 a5 a6 a7 a8 a9 a10 a11 a12 a13 a14 : Nat → Int32} {l : Nat} {tk : Nat → Nat} {ok : Nat → Prop} {op : Nat → Nat} {F O : Nat} (hl : l ≤ 2) (g : tv_G tk ok) (h1 : ∀ j, j < 18 → a1 j = nI (tk j)) (h3 : ∀ j, ok j → tk j ≠ 0 → tk j < 4 → a3 j = nI (tv_se tk j))
    (h13 : ∀ k, k < 4 → a13 k = nI (op k)) (hop : ∀ k, k < 4 → op k < 8 ∧ 0 < op k) (hF : F < 8) (hO : O < 8) (kF : F ≠ 7 → ok 0 ∧ tv_w tk 0 ≤ 9) (kO : O ≠ 7 → ok 9 ∧ tv_w tk 9 ≤ 9)
    (Hp : tv_Sat l tk F O op → ∀ (dm' hd' : Int32) (a6' a7' a8' a9' a10' a11' a12' : Nat → Int32), post 1 (nI l, oc, dm', hd', nI F, nI O, a1, a2, a3, a4, a5, a6', a7', a8', a9', a10', a11', a12', a13, a14)) (Hn : ¬ tv_Sat l tk F O op → ∀ (dm' hd' : Int32) (a6' a7' a8' a9' a10' a11' a12' : Nat → Int32), post 0 (nI l, oc, dm', hd', nI F, nI O, a1, a2, a3, a4, a5, a6', a7', a8', a9', a10', a11', a12', a13, a14)) :
    wpX_meets post (nI l, oc, dm, hd, nI F, nI O, a1, a2, a3, a4, a5, a6, a7, a8, a9, a10, a11, a12, a13, a14) := by
  have b4 : ∀ c, tv_w tk c ≤ 9 → tv_b tk c ≤ 4 := fun c h => by unfold tv_b; omega
  refine pk_eq F 7 (fun zF => ?_) (fun zF => ?_)
  · refine pk_eq O 7 (fun zO => ?_) (fun zO => ?_)
    · have hs : (∃ a, tv_Sol (tv_v l tk) [] op a) ↔ tv_Sat l tk F O op := by
        constructor
        · rintro ⟨a, ha, _⟩
          exact ⟨a, ha, by rw [zF]; exact tv_7v l tk a 0, by rw [zO]; exact tv_7v l tk a 9⟩
        · rintro ⟨a, ha, _⟩
          exact ⟨a, ha, fun p hp => absurd hp (by simp)⟩
      exact tv_49 (Q := []) hl g h1 h3 h13 trivial ⟨fun p hp => absurd hp (by simp), hop, (by decide : 0 + 0 ≤ 18)⟩ (by decide : 0 ≤ 8) (fun x => Hp (hs.mp x)) (fun x => Hn (fun y => x (hs.mpr y)))
    · obtain ⟨o9, w9⟩ := kO zO
      have hs : (∃ a, tv_Sol (tv_v l tk) [(9, O)] op a) ↔ tv_Sat l tk F O op := by
        constructor
        · rintro ⟨a, ha⟩
          have h := tv_Sol_cons.mp ha
          exact ⟨a, h.2.1, by rw [zF]; exact tv_7v l tk a 0, h.1⟩
        · rintro ⟨a, ha, _, h9⟩
          exact ⟨a, tv_Sol_cons.mpr ⟨h9, ha, fun p hp => absurd hp (by simp)⟩⟩
      refine tv_w_demand (d := 0) (c := 9) (m := O) (by omega) (by omega) (by omega) rfl rfl ?_
      exact tv_49 (Q := [(9, O)]) hl g h1 h3 h13 ⟨pk_us, pk_us, trivial⟩ ⟨fun p hp => by rw [List.mem_singleton.mp hp]; exact ⟨o9, hO⟩, hop, by rw [tv_ws_c]; show 0 + (tv_w tk 9 + 0) ≤ 18; omega⟩ (by have := b4 9 w9; rw [tv_bs_c]; show tv_b tk 9 + 0 ≤ 8; omega) (fun x => Hp (hs.mp x)) (fun x => Hn (fun y => x (hs.mpr y)))
  · obtain ⟨o0, w0⟩ := kF zF
    refine tv_w_demand (d := 0) (c := 0) (m := F) (by omega) (by omega) (by omega) rfl rfl ?_
    refine pk_eq O 7 (fun zO => ?_) (fun zO => ?_)
    · have hs : (∃ a, tv_Sol (tv_v l tk) [(0, F)] op a) ↔ tv_Sat l tk F O op := by
        constructor
        · rintro ⟨a, ha⟩
          have h := tv_Sol_cons.mp ha
          exact ⟨a, h.2.1, h.1, by rw [zO]; exact tv_7v l tk a 9⟩
        · rintro ⟨a, ha, h9, _⟩
          exact ⟨a, tv_Sol_cons.mpr ⟨h9, ha, fun p hp => absurd hp (by simp)⟩⟩
      exact tv_49 (Q := [(0, F)]) hl g h1 h3 h13 ⟨pk_us, pk_us, trivial⟩ ⟨fun p hp => by rw [List.mem_singleton.mp hp]; exact ⟨o0, hF⟩, hop, by rw [tv_ws_c]; show 0 + (tv_w tk 0 + 0) ≤ 18; omega⟩ (by have := b4 0 w0; rw [tv_bs_c]; show tv_b tk 0 + 0 ≤ 8; omega) (fun x => Hp (hs.mp x)) (fun x => Hn (fun y => x (hs.mpr y)))
    · obtain ⟨o9, w9⟩ := kO zO
      have hs : (∃ a, tv_Sol (tv_v l tk) [(0, F), (9, O)] op a) ↔ tv_Sat l tk F O op := by
        constructor
        · rintro ⟨a, ha⟩
          have h := tv_Sol_cons.mp ha
          have h' := tv_Sol_cons.mp h.2
          exact ⟨a, h'.2.1, h.1, h'.1⟩
        · rintro ⟨a, ha, h9, h10⟩
          exact ⟨a, tv_Sol_cons.mpr ⟨h9, tv_Sol_cons.mpr ⟨h10, ha, fun p hp => absurd hp (by simp)⟩⟩⟩
      refine tv_w_demand (d := 0 + 1) (c := 9) (m := O) (by omega) (by omega) (by omega) rfl rfl ?_
      exact tv_49 (Q := [(0, F), (9, O)]) hl g h1 h3 h13 ⟨by rw [pk_un (by omega), pk_us], by rw [pk_un (by omega), pk_us], pk_us, pk_us, trivial⟩ ⟨fun p hp => by
        rcases List.mem_cons.mp hp with e | e
        · rw [e]; exact ⟨o0, hF⟩
        · rw [List.mem_singleton.mp e]; exact ⟨o9, hO⟩, hop, by rw [tv_ws_c, tv_ws_c]; show 0 + (tv_w tk 0 + (tv_w tk 9 + 0)) ≤ 18; omega⟩ (by have := b4 0 w0; have := b4 9 w9; rw [tv_bs_c, tv_bs_c]; show tv_b tk 0 + (tv_b tk 9 + 0) ≤ 8; omega) (fun x => Hp (hs.mp x)) (fun x => Hn (fun y => x (hs.mpr y)))
end
section
/-! read: second parts, and whether a formula is complete -/
def tv_W (tk : Nat → Nat) (B : Nat) : Nat → Nat
  | 0 => 0
  | k + 1 => tv_W tk B k - 1 + tv_wn (tk (B + k))
theorem tv_CI (tk : Nat → Nat) (B : Nat) : ∀ k, B + k ≤ 18 → ∀ c, B ≤ c → c < B + k → tv_E tk 1 c ≤ B + k ∨ ∃ S, 1 ≤ S ∧ S ≤ tv_W tk B k ∧ tv_E tk 1 c = tv_E tk S (B + k) := by
  intro k
  induction k with
  | zero => intro _ c h1 h2; exact absurd h2 (by omega)
  | succ k ih =>
    intro hk c h1 h2
    have hW : tv_W tk B (k + 1) = tv_W tk B k - 1 + tv_wn (tk (B + k)) := rfl
    have fin : ∀ S, 1 ≤ S → S - 1 + tv_wn (tk (B + k)) ≤ tv_W tk B (k + 1) → tv_E tk 1 c = tv_E tk S (B + k) → tv_E tk 1 c ≤ B + (k + 1) ∨ ∃ S, 1 ≤ S ∧ S ≤ tv_W tk B (k + 1) ∧ tv_E tk 1 c = tv_E tk S (B + (k + 1)) := by
      intro S hS hle e
      rw [tv_ES hS (by omega)] at e
      by_cases z : S - 1 + tv_wn (tk (B + k)) = 0
      · rw [z, tv_E0] at e
        exact Or.inl (by omega)
      · exact Or.inr ⟨_, by omega, hle, e⟩
    by_cases e : c = B + k
    · exact fin 1 (Nat.le_refl 1) (by omega) (by rw [e])
    · rcases ih (by omega) c h1 (by omega) with h | ⟨S, s1, s2, s3⟩
      · exact Or.inl (by omega)
      · exact fin S s1 (by omega) s3
def tv_SM (a4 a5 : Nat → Int32) : List (Nat × Nat) → Prop
  | [] => True
  | p :: r => a4 r.length = nI p.1 ∧ a5 r.length = nI p.2 ∧ tv_SM a4 a5 r
theorem tv_SM_ag {a4 a5 a4' a5' : Nat → Int32} : ∀ {st : List (Nat × Nat)}, (∀ j, j < st.length → a4' j = a4 j ∧ a5' j = a5 j) → tv_SM a4 a5 st → tv_SM a4' a5' st := by
  intro st
  induction st with
  | nil => intro _ _; trivial
  | cons p r ih =>
    intro h hm
    obtain ⟨m1, m2, m3⟩ := hm
    rw [List.length_cons] at h
    have k := h r.length (by omega)
    exact ⟨by rw [k.1]; exact m1, by rw [k.2]; exact m2, ih (fun j hj => h j (by omega)) m3⟩
def tv_SI (tk : Nat → Nat) (B K : Nat) : List (Nat × Nat) → Nat → Prop
  | [], _ => True
  | p :: r, S => B ≤ p.1 ∧ p.1 < K ∧ tk p.1 < 4 ∧ 1 ≤ p.2 ∧ ((S = 0 ∧ p.1 + 1 = K ∧ p.2 = tv_wn (tk p.1)) ∨ (tk p.1 ≠ 0 ∧ p.2 = 1 ∧ p.1 + 1 < K ∧ tv_se tk p.1 = tv_E tk S K)) ∧ tv_SI tk B K r (S + p.2)
def tv_sw : List (Nat × Nat) → Nat
  | [] => 0
  | p :: r => p.2 + tv_sw r
theorem tv_SI_next {tk : Nat → Nat} {B K : Nat} (hK : K < 18) : ∀ {r : List (Nat × Nat)} {S S' : Nat}, 1 ≤ S → S' = S - 1 + tv_wn (tk K) → tv_SI tk B K r S → tv_SI tk B (K + 1) r S' := by
  intro r
  induction r with
  | nil => intro S S' _ _ _; trivial
  | cons p r ih =>
    intro S S' hS e h
    obtain ⟨i1, i2, i3, i4, i5, i6⟩ := h
    refine ⟨i1, by omega, i3, i4, ?_, ih (S := S + p.2) (by omega) (by omega) i6⟩
    rcases i5 with ⟨z, _, _⟩ | ⟨t0, w1, lt, es⟩
    · exact absurd z (by omega)
    · exact Or.inr ⟨t0, w1, by omega, by rw [es, tv_ES hS hK, e]⟩
/-- what holds of the stack when k tokens are read -/
def tv_RI (tk : Nat → Nat) (B k : Nat) (st : List (Nat × Nat)) (a3 : Nat → Int32) : Prop := tv_SI tk B (B + k) st 0 ∧ tv_sw st = tv_W tk B k ∧ st.length ≤ k ∧ ∀ c, B ≤ c → c < B + k → tk c ≠ 0 → tk c < 4 → (∃ wn, (c, wn) ∈ st) ∨ a3 c = nI (tv_se tk c)
/-- and between the two halves of a step -/
def tv_MI (tk : Nat → Nat) (B k : Nat) (st : List (Nat × Nat)) (a3 : Nat → Int32) : Prop := tv_SI tk B (B + k + 1) st (tv_wn (tk (B + k))) ∧ tv_sw st = tv_W tk B k - 1 ∧ st.length ≤ k ∧ ∀ c, B ≤ c → c < B + k → tk c ≠ 0 → tk c < 4 → (∃ wn, (c, wn) ∈ st) ∨ a3 c = nI (tv_se tk c)
theorem tv_MI_nil {tk : Nat → Nat} {B k : Nat} {a3 : Nat → Int32} (h : tv_RI tk B k [] a3) : tv_MI tk B k [] a3 := by
  obtain ⟨_, r2, r3, r4⟩ := h
  have r2' : 0 = tv_W tk B k := r2
  exact ⟨trivial, by show 0 = _; omega, r3, r4⟩
theorem tv_RI_0 {tk : Nat → Nat} {B : Nat} {a3 : Nat → Int32} : tv_RI tk B 0 [] a3 := ⟨trivial, rfl, Nat.le_refl 0, fun c h1 h2 => absurd h2 (by omega)⟩
/-- the push half -/
theorem tv_RI_push {tk : Nat → Nat} {B k : Nat} {st : List (Nat × Nat)} {a3 : Nat → Int32} (h : tv_MI tk B k st a3) (ht : tk (B + k) < 4) : tv_RI tk B (k + 1) ((B + k, tv_wn (tk (B + k))) :: st) a3 := by
  obtain ⟨r1, r2, r3, r4⟩ := h
  have hw : 1 ≤ tv_wn (tk (B + k)) := by
    unfold tv_wn
    split
    · omega
    · omega
  refine ⟨⟨by omega, by omega, ht, hw, Or.inl ⟨rfl, by omega, rfl⟩, ?_⟩, ?_, ?_, ?_⟩
  · have e : 0 + tv_wn (tk (B + k)) = tv_wn (tk (B + k)) := by omega
    show tv_SI tk B (B + (k + 1)) st (0 + tv_wn (tk (B + k)))
    rw [e]
    exact r1
  · show tv_wn (tk (B + k)) + tv_sw st = tv_W tk B k - 1 + tv_wn (tk (B + k))
    omega
  · rw [List.length_cons]
    omega
  · intro c h1 h2 t0 t4
    by_cases e : c = B + k
    · exact Or.inl ⟨tv_wn (tk (B + k)), by rw [e]; exact List.mem_cons_self⟩
    · rcases r4 c h1 (by omega) t0 t4 with ⟨wn, hm⟩ | hm
      · exact Or.inl ⟨wn, List.mem_cons_of_mem _ hm⟩
      · exact Or.inr hm
theorem tv_RI_stay {tk : Nat → Nat} {B k : Nat} {st : List (Nat × Nat)} {a3 : Nat → Int32} (h : tv_MI tk B k st a3) (ht : 4 ≤ tk (B + k)) : tv_RI tk B (k + 1) st a3 := by
  obtain ⟨r1, r2, r3, r4⟩ := h
  have hw : tv_wn (tk (B + k)) = 0 := by
    unfold tv_wn
    rw [if_neg (by omega), if_neg (by omega)]
  rw [hw] at r1
  refine ⟨r1, ?_, by omega, ?_⟩
  · show tv_sw st = tv_W tk B k - 1 + tv_wn (tk (B + k))
    omega
  · intro c h1 h2 t0 t4
    by_cases e : c = B + k
    · rw [e] at t4
      exact absurd t4 (by omega)
    · exact r4 c h1 (by omega) t0 t4
/-- the attach half: the first part of the top cell, or the only one -/
theorem tv_MI_first {tk : Nat → Nat} {B k c wn : Nat} {r : List (Nat × Nat)} {a3 : Nat → Int32} (hK : B + k < 18) (h : tv_RI tk B k ((c, wn) :: r) a3) (e : B + k = c + 1) (hw : wn = 1) : tv_MI tk B k r a3 := by
  obtain ⟨⟨i1, i2, i3, i4, i5, i6⟩, r2, r3, r4⟩ := h
  have t0 : tk c = 0 := by
    rcases i5 with ⟨_, _, w⟩ | ⟨_, _, lt, _⟩
    · have w' : wn = tv_wn (tk c) := w
      by_cases z : tk c = 0
      · exact z
      · unfold tv_wn at w'
        rw [if_neg z, if_pos i3] at w'
        omega
    · have lt' : c + 1 < B + k := lt
      omega
  rw [List.length_cons] at r3
  have r2' : wn + tv_sw r = tv_W tk B k := r2
  refine ⟨tv_SI_next hK (S := 0 + wn) (by omega) (by omega) i6, by omega, by omega, ?_⟩
  intro c' h1 h2 t0' t4
  rcases r4 c' h1 h2 t0' t4 with ⟨w', hm⟩ | hm
  · rcases List.mem_cons.mp hm with z | z
    · have : c' = c := congrArg Prod.fst z
      rw [this] at t0'
      exact absurd t0 t0'
    · exact Or.inl ⟨w', z⟩
  · exact Or.inr hm
theorem tv_MI_half {tk : Nat → Nat} {B k c wn : Nat} {r : List (Nat × Nat)} {a3 : Nat → Int32} (hK : B + k < 18) (h : tv_RI tk B k ((c, wn) :: r) a3) (e : B + k = c + 1) (hw : wn ≠ 1) : wn = 2 ∧ tv_MI tk B k ((c, 1) :: r) a3 := by
  obtain ⟨⟨i1, i2, i3, i4, i5, i6⟩, r2, r3, r4⟩ := h
  have w2 : tk c ≠ 0 ∧ wn = 2 := by
    rcases i5 with ⟨_, _, w⟩ | ⟨_, w1, _, _⟩
    · have w' : wn = tv_wn (tk c) := w
      unfold tv_wn at w'
      by_cases z : tk c = 0
      · rw [if_pos z] at w'
        exact absurd w' hw
      · rw [if_neg z, if_pos i3] at w'
        exact ⟨z, w'⟩
    · exact absurd w1 hw
  have r2' : wn + tv_sw r = tv_W tk B k := r2
  refine ⟨w2.2, ⟨i1, by show c < B + k + 1; omega, i3, Nat.le_refl 1, Or.inr ⟨w2.1, rfl, by show c + 1 < B + k + 1; omega, ?_⟩, ?_⟩, by show 1 + tv_sw r = _; omega, r3, ?_⟩
  · show tv_E tk 1 (c + 1) = tv_E tk (tv_wn (tk (B + k))) (B + k + 1)
    rw [← e, tv_ES (Nat.le_refl 1) hK, show 1 - 1 + tv_wn (tk (B + k)) = tv_wn (tk (B + k)) by omega]
  · exact tv_SI_next hK (S := 0 + wn) (by omega) (by show tv_wn (tk (B + k)) + 1 = _; omega) i6
  · intro c' h1 h2 t0' t4
    rcases r4 c' h1 h2 t0' t4 with ⟨w', hm⟩ | hm
    · rcases List.mem_cons.mp hm with z | z
      · have : c' = c := congrArg Prod.fst z
        exact Or.inl ⟨1, by rw [this]; exact List.mem_cons_self⟩
      · exact Or.inl ⟨w', List.mem_cons_of_mem _ z⟩
    · exact Or.inr hm
theorem tv_MI_second {tk : Nat → Nat} {B k c wn : Nat} {r : List (Nat × Nat)} {a3 : Nat → Int32} (hK : B + k < 18) (h : tv_RI tk B k ((c, wn) :: r) a3) (e : B + k ≠ c + 1) : wn = 1 ∧ tv_MI tk B k r (upd a3 c (nI (B + k))) := by
  obtain ⟨⟨i1, i2, i3, i4, i5, i6⟩, r2, r3, r4⟩ := h
  rcases i5 with ⟨_, z, _⟩ | ⟨t0, w1, lt, es⟩
  · exact absurd z.symm e
  · have w1' : wn = 1 := w1
    have es' : tv_se tk c = tv_E tk 0 (B + k) := es
    rw [tv_E0] at es'
    rw [List.length_cons] at r3
    have r2' : wn + tv_sw r = tv_W tk B k := r2
    refine ⟨w1', tv_SI_next hK (S := 0 + wn) (by omega) (by omega) i6, by omega, by omega, ?_⟩
    intro c' h1 h2 t0' t4
    by_cases ec : c' = c
    · exact Or.inr (by rw [ec, pk_us, es'])
    · rw [pk_un ec]
      rcases r4 c' h1 h2 t0' t4 with ⟨w', hm⟩ | hm
      · rcases List.mem_cons.mp hm with z | z
        · exact absurd (congrArg Prod.fst z) ec
        · exact Or.inl ⟨w', z⟩
      · exact Or.inr hm
theorem tv_k9 (f k : Nat) : nI f * 9 + nI k = nI (f * 9 + k) := by
  rw [show nI f * 9 = nI (f * 9) from pk_mul f 9, nI_add]
theorem tv_w_att32 {post : St1 → Prop} {lg dm hd fv ov : Int32} {a1 a2 a3 a4 a5 a6 a7 a8 a9 a10 a11 a12 a13 a14 : Nat → Int32} {q wn : Nat} (hq : q < 10) (h5 : a5 q = nI wn) (hw : 1 ≤ wn) (hw2 : wn ≤ 2)
    (H0 : wn = 1 → post (lg, nI q, dm, hd, fv, ov, a1, a2, a3, a4, upd a5 q (nI (wn - 1)), a6, a7, a8, a9, a10, a11, a12, a13, a14)) (H1 : wn ≠ 1 → post (lg, nI (q + 1), dm, hd, fv, ov, a1, a2, a3, a4, upd a5 q (nI (wn - 1)), a6, a7, a8, a9, a10, a11, a12, a13, a14)) :
    wX_attach_32 post (nI q) lg (nI (q + 1)) dm hd fv ov a1 a2 a3 a4 a5 a6 a7 a8 a9 a10 a11 a12 a13 a14 := by
  refine ⟨pk_in q 10 hq, pk_in q 10 hq, nm_r (e' := upd a5 q (nI (wn - 1))) ?_ ⟨pk_in q 10 hq, pk_eq (wn - 1) 0 (fun z => nm_r (nI_pred q) (H0 (by omega))) (fun z => H1 (by omega)) (by rw [nI_clamp (by omega), pk_us])⟩⟩
  rw [nI_clamp (by omega), h5, show nI wn - 1 = nI (wn - 1) from pk_sub (b := 1) hw, tv_b8 _ (by omega)]
theorem tv_w_read7 {post : St1 → Prop} {lg dm hd fv ov : Int32} {a1 a2 a6 a7 a8 a9 a10 a11 a12 a13 a14 : Nat → Int32} {tk : Nat → Nat} {f n : Nat} {a3 : Nat → Int32} (hf : f < 2) (hn : n ≤ 9) (h1 : ∀ j, j < 18 → a1 j = nI (tk j)) (t8 : ∀ j, j < 18 → tk j < 8) (h2 : a2 f = nI n)
    (H : ∀ (st : List (Nat × Nat)) (a3' a4' a5' : Nat → Int32), tv_RI tk (f * 9) n st a3' → (∀ j, j < f * 9 ∨ f * 9 + 9 ≤ j → a3' j = a3 j) → post (lg, nI st.length, dm, hd, fv, ov, a1, a2, a3', a4', a5', a6, a7, a8, a9, a10, a11, a12, a13, a14)) :
    ∀ (N k : Nat) (st : List (Nat × Nat)) (a3' a4 a5 : Nat → Int32), n - k < N → k ≤ n → tv_RI tk (f * 9) k st a3' → tv_SM a4 a5 st → (∀ j, j < f * 9 ∨ f * 9 + 9 ≤ j → a3' j = a3 j) → wX_read_7 post (nI f) N (nI k) lg (nI st.length) dm hd fv ov a1 a2 a3' a4 a5 a6 a7 a8 a9 a10 a11 a12 a13 a14 := by
  intro N
  induction N with
  | zero => intro k st a3' a4 a5 hN; exact absurd hN (by omega)
  | succ N ih =>
    intro k st a3' a4 a5 hN hk hR hS hA
    refine ⟨pk_in f 2 hf, pk_le n k (fun z => ?_) (fun z => nm_r (e' := nI (f * 9 + k)) (tv_k9 f k) ?_) (by rw [nI_clamp (by omega)]; exact h2)⟩
    · have e : k = n := by omega
      subst e
      exact H st a3' a4 a5 hR hA
    · have hK : f * 9 + k < 18 := by omega
      have h36 : ∀ (st : List (Nat × Nat)) (a3' a4 a5 : Nat → Int32), tv_MI tk (f * 9) k st a3' → tv_SM a4 a5 st → (∀ j, j < f * 9 ∨ f * 9 + 9 ≤ j → a3' j = a3 j) → wX_read_36 post (wX_read_7 post (nI f) N) (nI f) (nI k) (nI (f * 9 + k)) lg (nI st.length) dm hd fv ov a1 a2 a3' a4 a5 a6 a7 a8 a9 a10 a11 a12 a13 a14 := by
        intro st a3' a4 a5 hM hS hA
        have hsl := hM.2.2.1
        refine ⟨pk_in _ 18 hK, tv_w_wants (t := tk (f * 9 + k)) (t8 _ hK) (by rw [nI_clamp (by omega)]; exact h1 _ hK) ?_⟩
        have hwl : tv_wn (tk (f * 9 + k)) ≤ 2 := by
          unfold tv_wn
          split
          · omega
          · split <;> omega
        refine pk_le (tv_wn (tk (f * 9 + k))) 0 (fun z => nm_r (nI_1 k) ?_) (fun z => ⟨pk_in st.length 10 (by omega), nm_r (e' := upd a4 st.length (nI (f * 9 + k))) (by rw [nI_clamp (by omega), tv_b8 _ (by omega)]) ⟨pk_in st.length 10 (by omega), nm_r (e' := upd a5 st.length (nI (tv_wn (tk (f * 9 + k))))) (by rw [nI_clamp (by omega), tv_b8 _ (by omega)]) (nm_r (nI_1 st.length) (nm_r (nI_1 k) ?_))⟩⟩)
        · have t4 : 4 ≤ tk (f * 9 + k) := by
            unfold tv_wn at z
            split at z
            · omega
            · split at z
              · omega
              · omega
          exact ih (k + 1) st a3' a4 a5 (by omega) (by omega) (tv_RI_stay hM t4) hS hA
        · have t4 : tk (f * 9 + k) < 4 := by
            unfold tv_wn at z
            split at z
            · omega
            · split at z
              · omega
              · omega
          exact ih (k + 1) ((f * 9 + k, tv_wn (tk (f * 9 + k))) :: st) a3' _ _ (by omega) (by omega) (tv_RI_push hM t4) ⟨pk_us, pk_us, tv_SM_ag (fun j hj => ⟨pk_un (by omega), pk_un (by omega)⟩) hS⟩ hA
      cases st with
      | nil => exact pk_le 0 0 (fun _ => h36 [] a3' a4 a5 (tv_MI_nil hR) hS hA) (fun z => absurd z (by omega))
      | cons p r =>
        obtain ⟨c, wn⟩ := p
        obtain ⟨s1, s2, s3⟩ := hS
        have hrl := hR.2.2.1
        rw [List.length_cons] at hrl
        have hc1 : f * 9 ≤ c := hR.1.1
        have hc2 : c < f * 9 + k := hR.1.2.1
        have hw1 : 1 ≤ wn := hR.1.2.2.2.1
        have s1' : a4 (nI r.length).toNatClampNeg = nI c := by rw [nI_clamp (by omega)]; exact s1
        refine pk_le (r.length + 1) 0 (fun z => absurd z (by omega)) (fun _ => nm_r (e' := nI r.length) (nI_pred r.length) ⟨pk_in r.length 10 (by omega), pk_eq (f * 9 + k) (c + 1) (fun z => ?_) (fun z => ⟨pk_in r.length 10 (by omega), pk_in c 18 (by omega) s1', nm_r (e' := upd a3' c (nI (f * 9 + k))) (by rw [s1', nI_clamp (by omega), tv_b8 _ (by omega)]) ?_⟩) rfl (by rw [s1', nI_1])⟩)
        · by_cases hw : wn = 1
          · refine tv_w_att32 (q := r.length) (wn := wn) (by omega) s2 hw1 (by omega) (fun _ => ?_) (fun h => absurd hw h)
            exact h36 r a3' a4 _ (tv_MI_first hK hR z hw) (tv_SM_ag (fun j hj => ⟨rfl, pk_un (by omega)⟩) s3) hA
          · obtain ⟨w2, hM⟩ := tv_MI_half hK hR z hw
            refine tv_w_att32 (q := r.length) (wn := wn) (by omega) s2 hw1 (by omega) (fun h => absurd h hw) (fun _ => ?_)
            exact h36 ((c, 1) :: r) a3' a4 _ hM ⟨s1, by rw [pk_us, w2], tv_SM_ag (fun j hj => ⟨rfl, pk_un (by omega)⟩) s3⟩ hA
        · obtain ⟨w1, hM⟩ := tv_MI_second hK hR z
          refine tv_w_att32 (q := r.length) (wn := wn) (by omega) s2 hw1 (by omega) (fun _ => ?_) (fun h => absurd w1 h)
          exact h36 r _ a4 _ hM (tv_SM_ag (fun j hj => ⟨rfl, pk_un (by omega)⟩) s3) (fun j hj => by rw [pk_un (by omega)]; exact hA j hj)
/-- the formula at f is complete -/
def tv_full (tk : Nat → Nat) (f n : Nat) : Prop := 0 < n ∧ tv_W tk (f * 9) n = 0
/-- its second parts stand in a3 -/
def tv_S3 (tk : Nat → Nat) (a3 : Nat → Int32) (f n : Nat) : Prop := ∀ c, f * 9 ≤ c → c < f * 9 + n → tk c ≠ 0 → tk c < 4 → a3 c = nI (tv_se tk c)
theorem tv_sw_0 {tk : Nat → Nat} {B K S : Nat} {st : List (Nat × Nat)} (h : tv_SI tk B K st S) : tv_sw st = 0 ↔ st.length = 0 := by
  cases st with
  | nil => exact ⟨fun _ => rfl, fun _ => rfl⟩
  | cons p r =>
    have : 1 ≤ p.2 := h.2.2.2.1
    constructor
    · intro e
      have e' : p.2 + tv_sw r = 0 := e
      omega
    · intro e
      rw [List.length_cons] at e
      omega
theorem tv_w_complete {post : Int32 → St1 → Prop} {lg oc dm hd fv ov : Int32} {a1 a2 a3 a4 a5 a6 a7 a8 a9 a10 a11 a12 a13 a14 : Nat → Int32} {tk : Nat → Nat} {f n : Nat} (hf : f < 2) (hn : n ≤ 9) (h1 : ∀ j, j < 18 → a1 j = nI (tk j)) (t8 : ∀ j, j < 18 → tk j < 8) (h2 : a2 f = nI n)
    (H1 : tv_full tk f n → ∀ (oc' : Int32) (a3' a4' a5' : Nat → Int32), (∀ j, j < f * 9 ∨ f * 9 + 9 ≤ j → a3' j = a3 j) → tv_S3 tk a3' f n → post 1 (lg, oc', dm, hd, fv, ov, a1, a2, a3', a4', a5', a6, a7, a8, a9, a10, a11, a12, a13, a14))
    (H0 : ¬ tv_full tk f n → ∀ (oc' : Int32) (a3' a4' a5' : Nat → Int32), (∀ j, j < f * 9 ∨ f * 9 + 9 ≤ j → a3' j = a3 j) → post 0 (lg, oc', dm, hd, fv, ov, a1, a2, a3', a4', a5', a6, a7, a8, a9, a10, a11, a12, a13, a14)) :
    wpX_complete post (lg, oc, dm, hd, fv, ov, a1, a2, a3, a4, a5, a6, a7, a8, a9, a10, a11, a12, a13, a14) (nI f) := by
  unfold wpX_complete
  dsimp only
  refine tv_w_isF hf ?_
  refine br_f (by decide) ⟨n + 1, ?_⟩
  refine tv_w_read7 (n := n) hf hn h1 t8 h2 ?_ (n + 1) 0 [] a3 a4 a5 (by omega) (by omega) tv_RI_0 trivial (fun j _ => rfl)
  intro st a3' a4' a5' hR hA
  obtain ⟨r1, r2, r3, r4⟩ := hR
  have hs := tv_sw_0 r1
  refine ⟨pk_in f 2 hf, pk_le n 0 (fun z => H0 (fun h => absurd h.1 (by omega)) _ a3' a4' a5' hA) (fun z => pk_eq st.length 0 (fun e => ?_) (fun e => H0 (fun h => e (hs.mp (r2.trans h.2))) _ a3' a4' a5' hA)) (by rw [nI_clamp (by omega)]; exact h2)⟩
  refine H1 ⟨z, r2.symm.trans (hs.mpr e)⟩ _ a3' a4' a5' hA (fun c k1 k2 k3 k4 => ?_)
  rcases r4 c k1 k2 k3 k4 with ⟨w, hm⟩ | hm
  · rw [List.eq_nil_of_length_eq_zero e] at hm
    exact absurd hm (by simp)
  · exact hm
/-- the cells of a complete formula make a tree -/
def tv_In (tk : Nat → Nat) (f n c : Nat) : Prop := f * 9 ≤ c ∧ tv_E tk 1 c ≤ f * 9 + n
theorem tv_In_of {tk : Nat → Nat} {f n c : Nat} (hf : f < 2) (hn : n ≤ 9) (h : tv_full tk f n) (h1 : f * 9 ≤ c) (h2 : c < f * 9 + n) : tv_In tk f n c := by
  refine ⟨h1, ?_⟩
  rcases tv_CI tk (f * 9) n (by omega) c h1 h2 with e | ⟨S, s1, s2, _⟩
  · exact e
  · rw [h.2] at s2
    exact absurd s2 (by omega)
theorem tv_In_lt {tk : Nat → Nat} {f n c : Nat} (h : tv_In tk f n c) : c < f * 9 + n := Nat.lt_of_lt_of_le (tv_Elt (Nat.le_refl 1)) h.2
theorem tv_In_G {tk : Nat → Nat} {f n : Nat} (hf : f < 2) (hn : n ≤ 9) (t8 : ∀ j, j < 18 → tk j < 8) : tv_G tk (tv_In tk f n) := by
  intro c h
  have hlt := tv_In_lt h
  have c18 : c < 18 := by omega
  have e1 : c < tv_E tk 1 c := tv_Elt (Nat.le_refl 1)
  obtain ⟨i1, i2⟩ := h
  refine ⟨c18, t8 c c18, by unfold tv_w; omega, fun t0 => ?_, fun t0 t4 => ?_⟩
  · have en := tv_En c18 t0
    have e2 : c + 1 < tv_E tk 1 (c + 1) := tv_Elt (Nat.le_refl 1)
    exact ⟨⟨by omega, by omega⟩, by unfold tv_w; omega⟩
  · have eb := tv_Eb c18 t0 t4
    have es : tv_se tk c = tv_E tk 1 (c + 1) := rfl
    have e2 : c + 1 < tv_E tk 1 (c + 1) := tv_Elt (Nat.le_refl 1)
    have e3 : tv_se tk c < tv_E tk 1 (tv_se tk c) := tv_Elt (Nat.le_refl 1)
    exact ⟨⟨by omega, by omega⟩, ⟨by omega, by omega⟩, by unfold tv_w; omega⟩
theorem tv_G_or {tk : Nat → Nat} {p q : Nat → Prop} (hp : tv_G tk p) (hq : tv_G tk q) : tv_G tk (fun c => p c ∨ q c) := by
  intro c h
  rcases h with h | h
  · obtain ⟨g1, g2, g3, g4, g5⟩ := hp c h
    exact ⟨g1, g2, g3, fun t => ⟨Or.inl (g4 t).1, (g4 t).2⟩, fun t t' => ⟨Or.inl (g5 t t').1, Or.inl (g5 t t').2.1, (g5 t t').2.2⟩⟩
  · obtain ⟨g1, g2, g3, g4, g5⟩ := hq c h
    exact ⟨g1, g2, g3, fun t => ⟨Or.inr (g4 t).1, (g4 t).2⟩, fun t t' => ⟨Or.inr (g5 t t').1, Or.inr (g5 t t').2.1, (g5 t t').2.2⟩⟩
end
section
/-! value: the cells from the last to the first -/
theorem tv_m1s (x : Int32) : x + (-1) = x - 1 := (Int32.sub_eq_add_neg x 1).symm
theorem tv_w_value {post : Int32 → St1 → Prop} {oc dm hd fv ov : Int32} {a1 a2 a3 a4 a5 a6 a7 a8 a9 a10 a11 a12 a13 a14 : Nat → Int32} {l : Nat} {tk : Nat → Nat} {f n a : Nat} {q : Int32} (hl : l ≤ 2) (hf : f < 2) (hn : n ≤ 9) (ha : a < 81) (h1 : ∀ j, j < 18 → a1 j = nI (tk j)) (t8 : ∀ j, j < 18 → tk j < 8) (h2 : a2 f = nI n) (hfull : tv_full tk f n) (hq : q = nI a)
    (H : ∀ (oc' : Int32) (a3' a4' a5' a14' : Nat → Int32), post (nI (tv_v l tk a (f * 9))) (nI l, oc', dm, hd, fv, ov, a1, a2, a3', a4', a5', a6, a7, a8, a9, a10, a11, a12, a13, a14')) : wpX_value post (nI l, oc, dm, hd, fv, ov, a1, a2, a3, a4, a5, a6, a7, a8, a9, a10, a11, a12, a13, a14) (nI f) q := by
  subst hq
  refine pk_lt a 0 (fun z => absurd z (by omega)) (fun _ => pk_lt 80 a (fun z => absurd z (by omega)) (fun _ => tv_w_complete hf hn h1 t8 h2 (fun _ oc' a3' a4' a5' _ h3 => br_f (by decide) ⟨pk_in f 2 hf, nm_r (e' := nI n - 1) (by rw [nI_clamp (by omega), h2]) ⟨n + 1, ?_⟩⟩) (fun h => absurd hfull h)))
  refine pk_loopD (fun N i s => wX_value_29 post (nI f) (nI a) (nI l) oc' dm hd fv ov N (nI i - 1) a1 a2 a3' a4' a5' a6 a7 a8 a9 a10 a11 a12 a13 s) (fun i s => i ≤ n ∧ ∀ c, f * 9 + i ≤ c → c < f * 9 + n → s c = nI (tv_v l tk a c)) ?_ ?_ n a14 ⟨Nat.le_refl n, fun c k1 k2 => absurd k2 (by omega)⟩
  · intro N s hs
    have e9 : nI f * 9 = nI (f * 9) := pk_mul f 9
    have n0 := hfull.1
    refine br_t (by decide) ⟨pk_in (f * 9) 18 (by omega) e9, ?_⟩
    show post (s (nI f * 9).toNatClampNeg) _
    rw [e9, nI_clamp (by omega), hs.2 (f * 9) (by omega) (by omega)]
    exact H oc' a3' a4' a5' s
  · intro N i s hs hw
    obtain ⟨hin, hs⟩ := hs
    have c18 : f * 9 + i < 18 := by omega
    have hG := tv_In_G (tk := tk) hf hn t8
    have hI : tv_In tk f n (f * 9 + i) := tv_In_of hf hn hfull (by omega) (by omega)
    obtain ⟨_, _, _, gn, gb⟩ := hG _ hI
    have hv3 := tv_v3 l tk a (f * 9 + i)
    have fin : ∀ r, r = nI (tv_v l tk a (f * 9 + i)) → (vp_in (nI (f * 9 + i)) 18 ∧ ∀ s' : Nat → Int32, s' = upd s (nI (f * 9 + i)).toNatClampNeg r.toInt8.toInt32 → ∀ x : Int32, x = nI (i + 1) - 1 + (-1) → wX_value_29 post (nI f) (nI a) (nI l) oc' dm hd fv ov N x a1 a2 a3' a4' a5' a6 a7 a8 a9 a10 a11 a12 a13 s') := by
      intro r hr
      refine ⟨pk_in _ 18 c18, nm_r (e' := upd s (f * 9 + i) (nI (tv_v l tk a (f * 9 + i)))) (by rw [hr, nI_clamp (by omega), tv_b8 _ (by omega)]) (nm_r (e' := nI i - 1) (by rw [nI_pred, tv_m1s]) (hw _ ⟨by omega, fun c k1 k2 => ?_⟩))⟩
      by_cases e : c = f * 9 + i
      · rw [e, pk_us]
      · rw [pk_un e]
        exact hs c (by omega) k2
    refine pk_lt i 0 (fun z => absurd z (by omega)) (fun _ => nm_r (e' := nI (f * 9 + i)) (by rw [nI_pred, tv_k9]) ⟨pk_in _ 18 c18, nm_r (e' := nI (tk (f * 9 + i))) (by rw [nI_clamp (by omega)]; exact h1 _ c18) ?_⟩) (nI_pred i)
    have t8' := t8 _ c18
    refine pk_lt (tk (f * 9 + i)) 4 (fun z4 => pk_eq (tk (f * 9 + i)) 0 (fun z0 => ?_) (fun z0 => ?_)) (fun z4 => ?_)
    · have k1 := tv_In_lt (gn z0).1
      refine ⟨pk_in (f * 9 + i + 1) 18 (by omega) (nI_1 _), tv_w_not (x := tv_v l tk a (f * 9 + i + 1)) hl (tv_v3 _ _ _ _) (by rw [nI_1, nI_clamp (by omega)]; exact hs _ (by omega) k1) ?_⟩
      exact fin _ (by rw [tv_v_not c18 z0])
    · obtain ⟨o1, o2, _⟩ := gb z0 z4
      have k1 := tv_In_lt o1
      have k2 := tv_In_lt o2
      have k3 := tv_se_lt tk (f * 9 + i)
      have e3 : a3' (nI (f * 9 + i)).toNatClampNeg = nI (tv_se tk (f * 9 + i)) := by
        rw [nI_clamp (by omega)]
        exact h3 _ (by omega) (by omega) z0 z4
      refine ⟨pk_in (f * 9 + i + 1) 18 (by omega) (nI_1 _), pk_in _ 18 c18, pk_in (tv_se tk (f * 9 + i)) 18 (by omega) e3, tv_w_app (t := tk (f * 9 + i)) (x := tv_v l tk a (f * 9 + i + 1)) (y := tv_v l tk a (tv_se tk (f * 9 + i))) hl t8' (tv_v3 _ _ _ _) (tv_v3 _ _ _ _) rfl (by rw [nI_1, nI_clamp (by omega)]; exact hs _ (by omega) k1) (by rw [e3, nI_clamp (by omega)]; exact hs _ (by omega) k2) ?_⟩
      exact fin _ (by rw [tv_v_bin c18 z0 z4])
    · refine tv_w_vo (k := tk (f * 9 + i) - 4) (a := a) (by omega) ha (pk_sub (a := tk (f * 9 + i)) (b := 4) z4) rfl ?_
      exact fin _ (by rw [tv_v_let c18 z4])
end
section
/-! least: the least assignment -/
/-- all that a question needs of the state: cells ok, second parts, masks -/
def tv_Rdy (tk : Nat → Nat) (ok : Nat → Prop) (a1 a3 : Nat → Int32) (F O : Nat) : Prop := tv_G tk ok ∧ (∀ j, j < 18 → a1 j = nI (tk j)) ∧ (∀ j, ok j → tk j ≠ 0 → tk j < 4 → a3 j = nI (tv_se tk j)) ∧ F < 8 ∧ O < 8 ∧ (F ≠ 7 → ok 0 ∧ tv_w tk 0 ≤ 9) ∧ (O ≠ 7 → ok 9 ∧ tv_w tk 9 ≤ 9)
theorem tv_meetsR {post : Int32 → St1 → Prop} {oc dm hd : Int32} {a1 a2 a3 a4 a5 a6 a7 a8 a9 a10 a11 a12 a13 a14 : Nat → Int32} {l : Nat} {tk : Nat → Nat} {ok : Nat → Prop} {op : Nat → Nat} {F O : Nat} (hl : l ≤ 2) (R : tv_Rdy tk ok a1 a3 F O)
    (h13 : ∀ k, k < 4 → a13 k = nI (op k)) (hop : ∀ k, k < 4 → op k < 8 ∧ 0 < op k)
    (Hp : tv_Sat l tk F O op → ∀ (dm' hd' : Int32) (a6' a7' a8' a9' a10' a11' a12' : Nat → Int32), post 1 (nI l, oc, dm', hd', nI F, nI O, a1, a2, a3, a4, a5, a6', a7', a8', a9', a10', a11', a12', a13, a14)) (Hn : ¬ tv_Sat l tk F O op → ∀ (dm' hd' : Int32) (a6' a7' a8' a9' a10' a11' a12' : Nat → Int32), post 0 (nI l, oc, dm', hd', nI F, nI O, a1, a2, a3, a4, a5, a6', a7', a8', a9', a10', a11', a12', a13, a14)) :
    wpX_meets post (nI l, oc, dm, hd, nI F, nI O, a1, a2, a3, a4, a5, a6, a7, a8, a9, a10, a11, a12, a13, a14) := by
  obtain ⟨g, h1, h3, hF, hO, kF, kO⟩ := R
  exact tv_meets hl g h1 h3 h13 hop hF hO kF kO Hp Hn
theorem tv_Sat_dig {l : Nat} {tk : Nat → Nat} {F O k : Nat} {op : Nat → Nat} (hk : k < 4) (h : tv_Sat l tk F O op) : ∃ y, y < 3 ∧ (op k).testBit y = true ∧ tv_Sat l tk F O (tv_up op k (2 ^ y)) := by
  obtain ⟨a, ⟨ha, hf⟩, h0, h9⟩ := h
  have hm : a / 3 ^ k % 3 < 3 := Nat.mod_lt _ (by omega)
  refine ⟨a / 3 ^ k % 3, hm, hf k hk, a, ⟨ha, fun j hj => ?_⟩, h0, h9⟩
  by_cases e : j = k
  · rw [e, tv_up_s]
    exact (tv_p2 _ hm _ hm).mpr rfl
  · rw [tv_up_n e]
    exact hf j hj
theorem tv_lv {post : Int32 → St1 → Prop} {oc dm hd : Int32} {a1 a2 a3 a4 a5 a6 a7 a8 a9 a10 a11 a12 a13 a14 : Nat → Int32} {l : Nat} {tk : Nat → Nat} {ok : Nat → Prop} {op : Nat → Nat} {F O k : Nat} {p : Int32} (hl : l ≤ 2) (R : tv_Rdy tk ok a1 a3 F O)
    (h13 : ∀ j, j < 4 → a13 j = nI (op j)) (hop : ∀ j, j < 4 → op j < 8 ∧ 0 < op j) (hk : k < 4) (hp : p = nI k) (hS : tv_Sat l tk F O op)
    (H : ∀ (x : Nat) (dm' hd' : Int32) (a6' a7' a8' a9' a10' a11' a12' a13' : Nat → Int32), x < 3 → tv_Sat l tk F O (tv_up op k (2 ^ x)) → (∀ y, y < x → (op k).testBit y = true → ¬ tv_Sat l tk F O (tv_up op k (2 ^ y))) → (∀ j, j < 4 → a13' j = nI (tv_up op k (2 ^ x) j)) → post (nI x) (nI l, oc, dm', hd', nI F, nI O, a1, a2, a3, a4, a5, a6', a7', a8', a9', a10', a11', a12', a13', a14)) :
    wpX_leastValue post (nI l, oc, dm, hd, nI F, nI O, a1, a2, a3, a4, a5, a6, a7, a8, a9, a10, a11, a12, a13, a14) p := by
  subst hp
  have loop : ∀ (N x : Nat) (dm' hd' : Int32) (a6' a7' a8' a9' a10' a11' a12' a13' : Nat → Int32), 3 - x < N → x ≤ 3 → (∀ j, j < 4 → j ≠ k → a13' j = nI (op j)) → (∀ y, y < x → (op k).testBit y = true → ¬ tv_Sat l tk F O (tv_up op k (2 ^ y))) → wX_leastValue_9 post (nI k) (nI (op k)) N (nI x) (nI l) oc dm' hd' (nI F) (nI O) a1 a2 a3 a4 a5 a6' a7' a8' a9' a10' a11' a12' a13' a14 := by
    intro N
    induction N with
    | zero => intro x dm' hd' a6' a7' a8' a9' a10' a11' a12' a13' hN; exact absurd hN (by omega)
    | succ N ih =>
      intro x dm' hd' a6' a7' a8' a9' a10' a11' a12' a13' hN hx3 hj hy
      refine pk_le 3 x (fun z => ?_) (fun z => ?_)
      · obtain ⟨y, y3, yb, ys⟩ := tv_Sat_dig hk hS
        exact absurd ys (hy y (by omega) yb)
      · cases hb : (op k).testBit x with
        | false =>
          refine br_t ((tv_bit8 _ (hop k hk).1 _ z).mpr hb) (nm_r (nI_1 x) (ih (x + 1) _ _ _ _ _ _ _ _ _ _ (by omega) (by omega) hj (fun y yx yb => ?_)))
          by_cases e : y = x
          · rw [e, hb] at yb
            exact absurd yb (by simp)
          · exact hy y (by omega) yb
        | true =>
          have p2 := tv_p2lt x z
          have h13' : ∀ j, j < 4 → upd a13' k (nI (2 ^ x)) j = nI (tv_up op k (2 ^ x) j) := by
            intro j j4
            by_cases e : j = k
            · rw [e, pk_us, tv_up_s]
            · rw [pk_un e, tv_up_n e]
              exact hj j j4 e
          refine br_f (fun z' => ?_) ⟨pk_in k 4 hk, nm_r (e' := upd a13' k (nI (2 ^ x))) (by rw [nI_clamp (by omega), tv_sh x z, tv_b8 _ (by omega)]) ?_⟩
          · rw [(tv_bit8 _ (hop k hk).1 _ z).mp z'] at hb
            exact absurd hb (by simp)
          · refine tv_meetsR hl R h13' (fun j j4 => ?_) (fun hs => ?_) (fun hs => ?_)
            · by_cases e : j = k
              · rw [e, tv_up_s]
                exact p2
              · rw [tv_up_n e]
                exact hop j j4
            · intro dm'' hd'' a6'' a7'' a8'' a9'' a10'' a11'' a12''
              exact br_f (by decide) (H x _ _ _ _ _ _ _ _ _ _ z hs hy h13')
            · intro dm'' hd'' a6'' a7'' a8'' a9'' a10'' a11'' a12''
              refine br_t rfl (nm_r (nI_1 x) (ih (x + 1) _ _ _ _ _ _ _ _ _ _ (by omega) (by omega) (fun j j4 e => by rw [pk_un e]; exact hj j j4 e) (fun y yx yb => ?_)))
              by_cases e : y = x
              · rw [e]
                exact hs
              · exact hy y (by omega) yb
  exact ⟨pk_in k 4 hk, nm_r (e' := nI (op k)) (by rw [nI_clamp (by omega)]; exact h13 k hk) ⟨4, loop 4 0 _ _ _ _ _ _ _ _ _ _ (by omega) (by omega) (fun j j4 _ => h13 j j4) (fun y yx => absurd yx (by omega))⟩⟩
/-- assignment a answers the question -/
def tv_P (l : Nat) (tk : Nat → Nat) (F O a : Nat) : Prop := a < 81 ∧ F.testBit (tv_v l tk a 0) = true ∧ O.testBit (tv_v l tk a 9) = true
/-- letters from i on are fixed, and the number so far is n -/
def tv_LI (l : Nat) (tk : Nat → Nat) (F O i n : Nat) (op : Nat → Nat) : Prop := (∀ j, j < 4 → op j < 8 ∧ 0 < op j) ∧ (∀ j, j < i → op j = 7) ∧ (∀ a, a < 81 → (tv_free op a ↔ a / 3 ^ i = n)) ∧ (∃ a, tv_P l tk F O a ∧ a / 3 ^ i = n) ∧ ∀ a, tv_P l tk F O a → n ≤ a / 3 ^ i
theorem tv_LI_Sat {l : Nat} {tk : Nat → Nat} {F O i n : Nat} {op : Nat → Nat} (h : ∀ a, a < 81 → (tv_free op a ↔ a / 3 ^ i = n)) : tv_Sat l tk F O op ↔ ∃ a, tv_P l tk F O a ∧ a / 3 ^ i = n := by
  constructor
  · rintro ⟨a, hf, h0, h9⟩
    exact ⟨a, ⟨hf.1, h0, h9⟩, (h a hf.1).mp hf⟩
  · rintro ⟨a, ⟨ha, h0, h9⟩, e⟩
    exact ⟨a, (h a ha).mpr e, h0, h9⟩
theorem tv_div3 (a i : Nat) : a / 3 ^ (i + 1) = a / 3 ^ i / 3 := by rw [Nat.pow_succ, Nat.div_div_eq_div_mul]
theorem tv_free_up {op : Nat → Nat} {i n x : Nat} (hi : i < 4) (hx : x < 3) (h7 : op i = 7) (h : ∀ a, a < 81 → (tv_free op a ↔ a / 3 ^ (i + 1) = n)) : ∀ a, a < 81 → (tv_free (tv_up op i (2 ^ x)) a ↔ a / 3 ^ i = 3 * n + x) := by
  intro a ha
  have hm : a / 3 ^ i % 3 < 3 := Nat.mod_lt _ (by omega)
  have h' := h a ha
  rw [tv_div3] at h'
  constructor
  · rintro ⟨_, hf⟩
    have k := hf i hi
    rw [tv_up_s] at k
    have e := (tv_p2 x hx _ hm).mp k
    have f : tv_free op a := by
      refine ⟨ha, fun j hj => ?_⟩
      by_cases ej : j = i
      · rw [ej, h7]
        exact tv_7 _ hm
      · have := hf j hj
        rw [tv_up_n ej] at this
        exact this
    have := h'.mp f
    omega
  · intro e
    have f := h'.mpr (by omega)
    refine ⟨ha, fun j hj => ?_⟩
    by_cases ej : j = i
    · rw [ej, tv_up_s]
      exact (tv_p2 x hx _ hm).mpr (by omega)
    · rw [tv_up_n ej]
      exact f.2 j hj
theorem tv_LI_step {l : Nat} {tk : Nat → Nat} {F O i n x : Nat} {op : Nat → Nat} (hi : i < 4) (hx : x < 3) (h : tv_LI l tk F O (i + 1) n op) (hs : tv_Sat l tk F O (tv_up op i (2 ^ x))) (hm : ∀ y, y < x → (op i).testBit y = true → ¬ tv_Sat l tk F O (tv_up op i (2 ^ y))) : tv_LI l tk F O i (3 * n + x) (tv_up op i (2 ^ x)) := by
  obtain ⟨i1, i2, i3, i4, i5⟩ := h
  have h7 := i2 i (by omega)
  refine ⟨fun j hj => ?_, fun j hj => ?_, tv_free_up hi hx h7 i3, (tv_LI_Sat (tv_free_up hi hx h7 i3)).mp hs, fun a ha => ?_⟩
  · by_cases e : j = i
    · rw [e, tv_up_s]
      exact tv_p2lt x hx
    · rw [tv_up_n e]
      exact i1 j hj
  · rw [tv_up_n (by omega)]
    exact i2 j (by omega)
  · have k := i5 a ha
    rw [tv_div3] at k
    rcases Nat.lt_or_ge (a / 3 ^ i) (3 * n + x) with lt | ge
    · have hy : a / 3 ^ i - 3 * n < x := by omega
      refine absurd ((tv_LI_Sat (tv_free_up hi (by omega) h7 i3)).mpr ⟨a, ha, ?_⟩) (hm (a / 3 ^ i - 3 * n) hy ?_)
      · omega
      · rw [h7]
        exact tv_7 _ (by omega)
    · exact ge
theorem tv_least {post : Int32 → St1 → Prop} {oc dm hd : Int32} {a1 a2 a3 a4 a5 a6 a7 a8 a9 a10 a11 a12 a13 a14 : Nat → Int32} {l : Nat} {tk : Nat → Nat} {ok : Nat → Prop} {F O : Nat} (hl : l ≤ 2) (R : tv_Rdy tk ok a1 a3 F O) (h13 : ∀ j, j < 4 → a13 j = nI 7)
    (Hs : ∀ n, tv_P l tk F O n → (∀ a, tv_P l tk F O a → n ≤ a) → ∀ (dm' hd' : Int32) (a6' a7' a8' a9' a10' a11' a12' a13' : Nat → Int32), post (nI n) (nI l, oc, dm', hd', nI F, nI O, a1, a2, a3, a4, a5, a6', a7', a8', a9', a10', a11', a12', a13', a14))
    (Hn : (∀ a, ¬ tv_P l tk F O a) → ∀ (dm' hd' : Int32) (a6' a7' a8' a9' a10' a11' a12' a13' : Nat → Int32), post (-1) (nI l, oc, dm', hd', nI F, nI O, a1, a2, a3, a4, a5, a6', a7', a8', a9', a10', a11', a12', a13', a14)) :
    wpX_least post (nI l, oc, dm, hd, nI F, nI O, a1, a2, a3, a4, a5, a6, a7, a8, a9, a10, a11, a12, a13, a14) := by
  have h4 : ∀ a, a < 81 → (tv_free (fun _ => 7) a ↔ a / 3 ^ 4 = 0) := by
    intro a ha
    refine ⟨fun _ => ?_, fun _ => ⟨ha, fun j _ => tv_7 _ (Nat.mod_lt _ (by omega))⟩⟩
    show a / 81 = 0
    omega
  have hS := tv_LI_Sat (l := l) (tk := tk) (F := F) (O := O) h4
  unfold wpX_least
  dsimp only
  refine tv_meetsR (op := fun _ => 7) hl R h13 (fun j _ => (by decide : 7 < 8 ∧ 0 < 7)) (fun hs => ?_) (fun hs => ?_)
  · intro dm' hd' a6' a7' a8' a9' a10' a11' a12'
    refine br_f (by decide) ⟨4 + 1, ?_⟩
    have loop : ∀ (i n : Nat) (op : Nat → Nat) (dm' hd' : Int32) (a6' a7' a8' a9' a10' a11' a12' a13' : Nat → Int32), i ≤ 4 → tv_LI l tk F O i n op → (∀ j, j < 4 → a13' j = nI (op j)) → wX_least_13 post (i + 1) (nI n) (nI i - 1) (nI l) oc dm' hd' (nI F) (nI O) a1 a2 a3 a4 a5 a6' a7' a8' a9' a10' a11' a12' a13' a14 := by
      intro i
      induction i with
      | zero =>
        intro n op dm' hd' a6' a7' a8' a9' a10' a11' a12' a13' _ hI h13'
        obtain ⟨i1, i2, i3, ⟨a, ha, e⟩, i5⟩ := hI
        have d1 : ∀ a, a / 3 ^ 0 = a := fun a => by rw [Nat.pow_zero, Nat.div_one]
        rw [d1] at e
        subst e
        exact br_t (by decide) (Hs a ha (fun b hb => by have := i5 b hb; rw [d1] at this; exact this) _ _ _ _ _ _ _ _ _ _)
      | succ i ih =>
        intro n op dm' hd' a6' a7' a8' a9' a10' a11' a12' a13' hi4 hI h13'
        have hn81 : n ≤ 81 := by
          obtain ⟨_, _, _, ⟨a, ha, e⟩, _⟩ := hI
          have := Nat.div_le_self a (3 ^ (i + 1))
          have := ha.1
          omega
        refine pk_lt i 0 (fun z => absurd z (by omega)) (fun _ => ?_) (nI_pred i)
        refine tv_lv (op := op) (k := i) hl R h13' hI.1 (by omega) (nI_pred i) ((tv_LI_Sat hI.2.2.1).mpr hI.2.2.2.1) ?_
        intro x dm'' hd'' a6'' a7'' a8'' a9'' a10'' a11'' a12'' a13'' hx3 hs hm h13''
        refine nm_r (e' := nI (3 * n + x)) ?_ (nm_r (e' := nI i - 1) (by rw [nI_pred, tv_m1s]) (ih (3 * n + x) (tv_up op i (2 ^ x)) _ _ _ _ _ _ _ _ _ _ (by omega) (tv_LI_step (by omega) hx3 hI hs hm) h13''))
        rw [show (3 : Int32) * nI n = nI (3 * n) from pk_mul 3 n, nI_add]
    exact loop 4 0 (fun _ => 7) _ _ _ _ _ _ _ _ _ _ (Nat.le_refl 4) ⟨fun j _ => (by decide : 7 < 8 ∧ 0 < 7), fun j _ => rfl, h4, hS.mp hs, fun a _ => Nat.zero_le _⟩ h13
  · intro dm' hd' a6' a7' a8' a9' a10' a11' a12'
    refine br_t rfl (Hn (fun a ha => hs (hS.mpr ⟨a, ha, ?_⟩)) _ _ _ _ _ _ _ _ _ _)
    have := ha.1
    show a / 81 = 0
    omega
end
section
/-! the answers -/
def tv_Env (l : Nat) (tk sz : Nat → Nat) (a1 a2 : Nat → Int32) : Prop := l ≤ 2 ∧ (∀ j, j < 18 → a1 j = nI (tk j)) ∧ (∀ j, j < 18 → tk j < 8) ∧ ∀ f, f < 2 → a2 f = nI (sz f) ∧ sz f ≤ 9
def tv_F (f m : Nat) : Nat := if f = 0 then m else 7
def tv_O (f m : Nat) : Nat := if f = 0 then 7 else m
def tv_i (b : Bool) : Int32 := if b = true then 1 else 0
theorem tv_f2 {f : Nat} (hf : f < 2) : f = 0 ∨ f = 1 := by omega
theorem tv_w_askOne {post : St1 → Prop} {lg oc dm hd fv ov : Int32} {a1 a2 a3 a4 a5 a6 a7 a8 a9 a10 a11 a12 a13 a14 : Nat → Int32} {f m : Nat} {q : Int32} (hf : f < 2) (hq : q = nI m) (H : ∀ a13' : Nat → Int32, (∀ k, k < 4 → a13' k = nI 7) → post (lg, oc, dm, hd, nI (tv_F f m), nI (tv_O f m), a1, a2, a3, a4, a5, a6, a7, a8, a9, a10, a11, a12, a13', a14)) : wpX_askOne post (lg, oc, dm, hd, fv, ov, a1, a2, a3, a4, a5, a6, a7, a8, a9, a10, a11, a12, a13, a14) (nI f) q := by
  subst hq
  rcases tv_f2 hf with rfl | rfl
  · refine br_t rfl ?_
    refine br_t rfl ?_
    exact tv_w_ask (fun a13' h => H a13' h)
  · refine br_f (by decide) ?_
    refine br_f (by decide) ?_
    exact tv_w_ask (fun a13' h => H a13' h)
theorem tv_w9 {tk : Nat → Nat} {f n : Nat} (hn : n ≤ 9) (h : tv_In tk f n (f * 9)) : tv_w tk (f * 9) ≤ 9 := by
  have := h.2
  unfold tv_w
  omega
theorem tv_Rdy_one {l : Nat} {tk sz : Nat → Nat} {a1 a2 a3 : Nat → Int32} {f m : Nat} (E : tv_Env l tk sz a1 a2) (hf : f < 2) (hfull : tv_full tk f (sz f)) (h3 : tv_S3 tk a3 f (sz f)) (hm : m < 8) : tv_Rdy tk (tv_In tk f (sz f)) a1 a3 (tv_F f m) (tv_O f m) := by
  have hn := (E.2.2.2 f hf).2
  have hI : tv_In tk f (sz f) (f * 9) := tv_In_of hf hn hfull (Nat.le_refl _) (by have := hfull.1; omega)
  refine ⟨tv_In_G hf hn E.2.2.1, E.2.1, fun j hj t0 t4 => h3 j hj.1 (tv_In_lt hj) t0 t4, ?_⟩
  rcases tv_f2 hf with rfl | rfl
  · exact ⟨hm, (by decide : 7 < 8), fun _ => ⟨hI, tv_w9 hn hI⟩, fun h => absurd rfl h⟩
  · exact ⟨(by decide : 7 < 8), hm, fun h => absurd rfl h, fun _ => ⟨hI, tv_w9 hn hI⟩⟩
theorem tv_Rdy_two {l : Nat} {tk sz : Nat → Nat} {a1 a2 a3 : Nat → Int32} {F O : Nat} (E : tv_Env l tk sz a1 a2) (h0 : tv_full tk 0 (sz 0)) (h1 : tv_full tk 1 (sz 1)) (s0 : tv_S3 tk a3 0 (sz 0)) (s1 : tv_S3 tk a3 1 (sz 1)) (hF : F < 8) (hO : O < 8) : tv_Rdy tk (fun c => tv_In tk 0 (sz 0) c ∨ tv_In tk 1 (sz 1) c) a1 a3 F O := by
  have n0 := (E.2.2.2 0 (by omega)).2
  have n1 := (E.2.2.2 1 (by omega)).2
  have I0 : tv_In tk 0 (sz 0) (0 * 9) := tv_In_of (by omega) n0 h0 (Nat.le_refl _) (by have := h0.1; omega)
  have I1 : tv_In tk 1 (sz 1) (1 * 9) := tv_In_of (by omega) n1 h1 (Nat.le_refl _) (by have := h1.1; omega)
  exact ⟨tv_G_or (tv_In_G (by omega) n0 E.2.2.1) (tv_In_G (by omega) n1 E.2.2.1), E.2.1, fun j hj t0 t4 => hj.elim (fun h => s0 j h.1 (tv_In_lt h) t0 t4) (fun h => s1 j h.1 (tv_In_lt h) t0 t4), hF, hO, fun _ => ⟨Or.inl I0, tv_w9 n0 I0⟩, fun _ => ⟨Or.inr I1, tv_w9 n1 I1⟩⟩
theorem tv_P_one {l : Nat} {tk : Nat → Nat} {f m a : Nat} (hf : f < 2) : tv_P l tk (tv_F f m) (tv_O f m) a ↔ a < 81 ∧ m.testBit (tv_v l tk a (f * 9)) = true := by
  rcases tv_f2 hf with rfl | rfl
  · exact ⟨fun h => ⟨h.1, h.2.1⟩, fun h => ⟨h.1, h.2, tv_7v l tk a 9⟩⟩
  · exact ⟨fun h => ⟨h.1, h.2.2⟩, fun h => ⟨h.1, tv_7v l tk a 0, h.2⟩⟩
theorem tv_Sat7 {l : Nat} {tk : Nat → Nat} {F O : Nat} : tv_Sat l tk F O (fun _ => 7) ↔ ∃ a, tv_P l tk F O a := by
  constructor
  · rintro ⟨a, hf, h0, h9⟩
    exact ⟨a, hf.1, h0, h9⟩
  · rintro ⟨a, ha, h0, h9⟩
    exact ⟨a, ⟨ha, fun j _ => tv_7 _ (Nat.mod_lt _ (by omega))⟩, h0, h9⟩
theorem tv_any81 {p : Nat → Bool} : (List.range 81).any p = true ↔ ∃ a, a < 81 ∧ p a = true := by
  rw [List.any_eq_true]
  constructor
  · rintro ⟨a, ha, h⟩
    exact ⟨a, List.mem_range.mp ha, h⟩
  · rintro ⟨a, ha, h⟩
    exact ⟨a, List.mem_range.mpr ha, h⟩
def tv_has (l : Nat) (tk : Nat → Nat) (c x : Nat) : Bool := (List.range 81).any (fun a => tv_v l tk a c == x)
theorem tv_has_iff {l : Nat} {tk : Nat → Nat} {c x : Nat} : tv_has l tk c x = true ↔ ∃ a, a < 81 ∧ tv_v l tk a c = x := by
  unfold tv_has
  rw [tv_any81]
  constructor
  · rintro ⟨a, ha, h⟩
    exact ⟨a, ha, by simpa using h⟩
  · rintro ⟨a, ha, h⟩
    exact ⟨a, ha, by simpa using h⟩
theorem tv_find {post : Int32 → St1 → Prop} {oc dm hd fv ov : Int32} {a1 a2 a3 a4 a5 a6 a7 a8 a9 a10 a11 a12 a13 a14 : Nat → Int32} {l : Nat} {tk sz : Nat → Nat} {f x : Nat} {q : Int32} (E : tv_Env l tk sz a1 a2) (hf : f < 2) (hfull : tv_full tk f (sz f)) (hx : x < 3) (hq : q = nI x)
    (Hs : ∀ a, a < 81 → tv_v l tk a (f * 9) = x → (∀ b, b < a → tv_v l tk b (f * 9) ≠ x) → ∀ (oc' dm' hd' fv' ov' : Int32) (a3' a4' a5' a6' a7' a8' a9' a10' a11' a12' a13' a14' : Nat → Int32), post (nI a) (nI l, oc', dm', hd', fv', ov', a1, a2, a3', a4', a5', a6', a7', a8', a9', a10', a11', a12', a13', a14'))
    (Hn : (∀ a, a < 81 → tv_v l tk a (f * 9) ≠ x) → ∀ (oc' dm' hd' fv' ov' : Int32) (a3' a4' a5' a6' a7' a8' a9' a10' a11' a12' a13' a14' : Nat → Int32), post (-1) (nI l, oc', dm', hd', fv', ov', a1, a2, a3', a4', a5', a6', a7', a8', a9', a10', a11', a12', a13', a14')) : wpX_find post (nI l, oc, dm, hd, fv, ov, a1, a2, a3, a4, a5, a6, a7, a8, a9, a10, a11, a12, a13, a14) (nI f) q := by
  subst hq
  have P1 : ∀ a, tv_P l tk (tv_F f (2 ^ x)) (tv_O f (2 ^ x)) a ↔ a < 81 ∧ tv_v l tk a (f * 9) = x := fun a => by
    rw [tv_P_one hf, tv_p2 x hx _ (tv_v3 l tk a (f * 9))]
    exact ⟨fun h => ⟨h.1, h.2.symm⟩, fun h => ⟨h.1, h.2.symm⟩⟩
  unfold wpX_find
  dsimp only
  refine tv_w_isV hx ?_
  refine br_f (by decide) ?_
  refine tv_w_complete hf (E.2.2.2 f hf).2 E.2.1 E.2.2.1 (E.2.2.2 f hf).1 (fun _ oc' a3' a4' a5' _ h3 => ?_) (fun h => absurd hfull h)
  refine br_f (by decide) ?_
  refine tv_w_askOne hf (tv_sh x hx) (fun a13' h13 => ?_)
  refine tv_least E.1 (tv_Rdy_one E hf hfull h3 (tv_p2lt x hx).1) h13 ?_ ?_
  · intro n hP hmin dm' hd' a6' a7' a8' a9' a10' a11' a12' a13''
    have h := (P1 n).mp hP
    refine Hs n h.1 h.2 (fun b hb e => ?_) _ _ _ _ _ _ _ _ _ _ _ _ _ _ _ _ _
    have := hmin b ((P1 b).mpr ⟨by have := h.1; omega, e⟩)
    omega
  · intro hP dm' hd' a6' a7' a8' a9' a10' a11' a12' a13''
    exact Hn (fun a ha e => hP a ((P1 a).mpr ⟨ha, e⟩)) _ _ _ _ _ _ _ _ _ _ _ _ _ _ _ _ _
theorem tv_values {post : Int32 → St1 → Prop} {oc dm hd fv ov : Int32} {a1 a2 a3 a4 a5 a6 a7 a8 a9 a10 a11 a12 a13 a14 : Nat → Int32} {l : Nat} {tk sz : Nat → Nat} {f : Nat} (E : tv_Env l tk sz a1 a2) (hf : f < 2) (hfull : tv_full tk f (sz f))
    (H : ∀ (oc' dm' hd' fv' ov' : Int32) (a3' a4' a5' a6' a7' a8' a9' a10' a11' a12' a13' a14' : Nat → Int32), post (nI (tv_mk (tv_has l tk (f * 9)) 3)) (nI l, oc', dm', hd', fv', ov', a1, a2, a3', a4', a5', a6', a7', a8', a9', a10', a11', a12', a13', a14')) : wpX_values post (nI l, oc, dm, hd, fv, ov, a1, a2, a3, a4, a5, a6, a7, a8, a9, a10, a11, a12, a13, a14) (nI f) := by
  have loop : ∀ (N i : Nat) (oc' dm' hd' fv' ov' : Int32) (a3' a4' a5' a6' a7' a8' a9' a10' a11' a12' a13' a14' : Nat → Int32), 3 - i < N → i ≤ 3 → tv_S3 tk a3' f (sz f) → wX_values_14 post (nI f) N (nI (tv_mk (tv_has l tk (f * 9)) i)) (nI i) (nI l) oc' dm' hd' fv' ov' a1 a2 a3' a4' a5' a6' a7' a8' a9' a10' a11' a12' a13' a14' := by
    intro N
    induction N with
    | zero => intro i oc' dm' hd' fv' ov' a3' a4' a5' a6' a7' a8' a9' a10' a11' a12' a13' a14' hN; exact absurd hN (by omega)
    | succ N ih =>
      intro i oc' dm' hd' fv' ov' a3' a4' a5' a6' a7' a8' a9' a10' a11' a12' a13' a14' hN hi3 h3
      refine pk_le 3 i (fun z => ?_) (fun z => ?_)
      · have e : i = 3 := by omega
        subst e
        exact H _ _ _ _ _ _ _ _ _ _ _ _ _ _ _ _ _
      · have hh : tv_Sat l tk (tv_F f (2 ^ i)) (tv_O f (2 ^ i)) (fun _ => 7) ↔ tv_has l tk (f * 9) i = true := by
          rw [tv_Sat7, tv_has_iff]
          constructor
          · rintro ⟨a, ha⟩
            have h := (tv_P_one hf).mp ha
            exact ⟨a, h.1, ((tv_p2 i z _ (tv_v3 l tk a (f * 9))).mp h.2).symm⟩
          · rintro ⟨a, ha, e⟩
            exact ⟨a, (tv_P_one hf).mpr ⟨ha, (tv_p2 i z _ (tv_v3 l tk a (f * 9))).mpr e.symm⟩⟩
        refine tv_w_askOne hf (tv_sh i z) (fun a13'' h13 => ?_)
        refine tv_meetsR (op := fun _ => 7) E.1 (tv_Rdy_one E hf hfull h3 (tv_p2lt i z).1) h13 (fun j _ => (by decide : 7 < 8 ∧ 0 < 7)) (fun hs => ?_) (fun hs => ?_)
        · intro dm'' hd'' a6'' a7'' a8'' a9'' a10'' a11'' a12''
          have hb := hh.mp hs
          refine br_f (by decide) (nm_r (e' := nI (tv_mk (tv_has l tk (f * 9)) (i + 1))) ?_ (nm_r (nI_1 i) (ih (i + 1) _ _ _ _ _ _ _ _ _ _ _ _ _ _ _ _ _ (by omega) (by omega) h3)))
          rw [tv_sh i z, tv_mk_t hb]
          exact (tv_or8 _ (tv_mk_lt _ i (by omega)) i z).1
        · intro dm'' hd'' a6'' a7'' a8'' a9'' a10'' a11'' a12''
          have hb : tv_has l tk (f * 9) i = false := by
            cases hc : tv_has l tk (f * 9) i with
            | false => rfl
            | true => exact absurd (hh.mpr hc) hs
          have key := ih (i + 1) oc' dm'' hd'' (nI (tv_F f (2 ^ i))) (nI (tv_O f (2 ^ i))) a3' a4' a5' a6'' a7'' a8'' a9'' a10'' a11'' a12'' a13'' a14' (by omega) (by omega) h3
          rw [tv_mk_f hb] at key
          exact br_t rfl (nm_r (nI_1 i) key)
  unfold wpX_values
  dsimp only
  refine tv_w_complete hf (E.2.2.2 f hf).2 E.2.1 E.2.2.1 (E.2.2.2 f hf).1 (fun _ oc' a3' a4' a5' _ h3 => ?_) (fun h => absurd hfull h)
  exact br_f (by decide) ⟨4, loop 4 0 _ _ _ _ _ _ _ _ _ _ _ _ _ _ _ _ _ (by omega) (by omega) h3⟩
theorem tv_bit3 : ∀ x, x < 3 → ((3 : Nat).testBit x = true ↔ x = 0 ∨ x = 1) := by decide +kernel
theorem tv_valid {post : Int32 → St1 → Prop} {oc dm hd fv ov : Int32} {a1 a2 a3 a4 a5 a6 a7 a8 a9 a10 a11 a12 a13 a14 : Nat → Int32} {l : Nat} {tk sz : Nat → Nat} {f : Nat} (E : tv_Env l tk sz a1 a2) (hf : f < 2) (hfull : tv_full tk f (sz f))
    (H : ∀ (oc' dm' hd' fv' ov' : Int32) (a3' a4' a5' a6' a7' a8' a9' a10' a11' a12' a13' a14' : Nat → Int32), post (tv_i (!(tv_has l tk (f * 9) 0 || tv_has l tk (f * 9) 1))) (nI l, oc', dm', hd', fv', ov', a1, a2, a3', a4', a5', a6', a7', a8', a9', a10', a11', a12', a13', a14')) : wpX_valid post (nI l, oc, dm, hd, fv, ov, a1, a2, a3, a4, a5, a6, a7, a8, a9, a10, a11, a12, a13, a14) (nI f) := by
  have hh : tv_Sat l tk (tv_F f 3) (tv_O f 3) (fun _ => 7) ↔ (tv_has l tk (f * 9) 0 || tv_has l tk (f * 9) 1) = true := by
    rw [tv_Sat7, Bool.or_eq_true, tv_has_iff, tv_has_iff]
    constructor
    · rintro ⟨a, ha⟩
      have h := (tv_P_one hf).mp ha
      rcases (tv_bit3 _ (tv_v3 l tk a (f * 9))).mp h.2 with e | e
      · exact Or.inl ⟨a, h.1, e⟩
      · exact Or.inr ⟨a, h.1, e⟩
    · rintro (⟨a, ha, e⟩ | ⟨a, ha, e⟩)
      · exact ⟨a, (tv_P_one hf).mpr ⟨ha, (tv_bit3 _ (tv_v3 l tk a (f * 9))).mpr (Or.inl e)⟩⟩
      · exact ⟨a, (tv_P_one hf).mpr ⟨ha, (tv_bit3 _ (tv_v3 l tk a (f * 9))).mpr (Or.inr e)⟩⟩
  unfold wpX_valid
  dsimp only
  refine tv_w_complete hf (E.2.2.2 f hf).2 E.2.1 E.2.2.1 (E.2.2.2 f hf).1 (fun _ oc' a3' a4' a5' _ h3 => ?_) (fun h => absurd hfull h)
  refine br_f (by decide) ?_
  refine tv_w_askOne (m := 3) hf rfl (fun a13'' h13 => ?_)
  refine tv_meetsR (op := fun _ => 7) E.1 (tv_Rdy_one E hf hfull h3 (by decide)) h13 (fun j _ => (by decide : 7 < 8 ∧ 0 < 7)) (fun hs => ?_) (fun hs => ?_)
  · intro dm'' hd'' a6'' a7'' a8'' a9'' a10'' a11'' a12''
    rw [hh.mp hs] at H
    exact br_f (by decide) (H _ _ _ _ _ _ _ _ _ _ _ _ _ _ _ _ _)
  · intro dm'' hd'' a6'' a7'' a8'' a9'' a10'' a11'' a12''
    have hb : (tv_has l tk (f * 9) 0 || tv_has l tk (f * 9) 1) = false := by
      cases hc : (tv_has l tk (f * 9) 0 || tv_has l tk (f * 9) 1) with
      | false => rfl
      | true => exact absurd (hh.mpr hc) hs
    rw [hb] at H
    exact br_t rfl (H _ _ _ _ _ _ _ _ _ _ _ _ _ _ _ _ _)
theorem tv_both {post : Int32 → St1 → Prop} {lg oc dm hd fv ov : Int32} {a1 a2 a3 a4 a5 a6 a7 a8 a9 a10 a11 a12 a13 a14 : Nat → Int32} {l : Nat} {tk sz : Nat → Nat} (E : tv_Env l tk sz a1 a2) (f0 : tv_full tk 0 (sz 0)) (f1 : tv_full tk 1 (sz 1))
    (H : ∀ (oc' : Int32) (a3' a4' a5' : Nat → Int32), tv_S3 tk a3' 0 (sz 0) → tv_S3 tk a3' 1 (sz 1) → post 1 (lg, oc', dm, hd, fv, ov, a1, a2, a3', a4', a5', a6, a7, a8, a9, a10, a11, a12, a13, a14)) : wpX_both post (lg, oc, dm, hd, fv, ov, a1, a2, a3, a4, a5, a6, a7, a8, a9, a10, a11, a12, a13, a14) := by
  have n0 := (E.2.2.2 0 (by omega)).2
  unfold wpX_both
  dsimp only
  refine tv_w_complete (f := 0) (by omega) n0 E.2.1 E.2.2.1 (E.2.2.2 0 (by omega)).1 (fun _ oc' a3' a4' a5' _ h3 => ?_) (fun h => absurd f0 h)
  refine br_f (by decide) ?_
  refine tv_w_complete (f := 1) (by omega) (E.2.2.2 1 (by omega)).2 E.2.1 E.2.2.1 (E.2.2.2 1 (by omega)).1 (fun _ oc'' a3'' a4'' a5'' hA h3' => ?_) (fun h => absurd f1 h)
  refine br_f (by decide) (H oc'' a3'' a4'' a5'' (fun c k1 k2 t0 t4 => ?_) h3')
  rw [hA c (by omega)]
  exact h3 c k1 k2 t0 t4
theorem tv_findBoth {post : Int32 → St1 → Prop} {oc dm hd fv ov : Int32} {a1 a2 a3 a4 a5 a6 a7 a8 a9 a10 a11 a12 a13 a14 : Nat → Int32} {l : Nat} {tk sz : Nat → Nat} {x y : Nat} {p q : Int32} (E : tv_Env l tk sz a1 a2) (f0 : tv_full tk 0 (sz 0)) (f1 : tv_full tk 1 (sz 1)) (hx : x < 3) (hy : y < 3) (hp : p = nI x) (hq : q = nI y)
    (Hs : ∀ a, a < 81 → tv_v l tk a 0 = x → tv_v l tk a 9 = y → ∀ (oc' dm' hd' fv' ov' : Int32) (a3' a4' a5' a6' a7' a8' a9' a10' a11' a12' a13' a14' : Nat → Int32), post (nI a) (nI l, oc', dm', hd', fv', ov', a1, a2, a3', a4', a5', a6', a7', a8', a9', a10', a11', a12', a13', a14'))
    (Hn : (∀ a, a < 81 → tv_v l tk a 0 = x → tv_v l tk a 9 ≠ y) → ∀ (oc' dm' hd' fv' ov' : Int32) (a3' a4' a5' a6' a7' a8' a9' a10' a11' a12' a13' a14' : Nat → Int32), post (-1) (nI l, oc', dm', hd', fv', ov', a1, a2, a3', a4', a5', a6', a7', a8', a9', a10', a11', a12', a13', a14')) : wpX_findBoth post (nI l, oc, dm, hd, fv, ov, a1, a2, a3, a4, a5, a6, a7, a8, a9, a10, a11, a12, a13, a14) p q := by
  subst hp
  subst hq
  have P1 : ∀ a, tv_P l tk (2 ^ x) (2 ^ y) a ↔ a < 81 ∧ tv_v l tk a 0 = x ∧ tv_v l tk a 9 = y := fun a => by
    unfold tv_P
    rw [tv_p2 x hx _ (tv_v3 l tk a 0), tv_p2 y hy _ (tv_v3 l tk a 9)]
    exact ⟨fun h => ⟨h.1, h.2.1.symm, h.2.2.symm⟩, fun h => ⟨h.1, h.2.1.symm, h.2.2.symm⟩⟩
  unfold wpX_findBoth
  dsimp only
  refine tv_w_isV hx ?_
  refine br_f (by decide) ?_
  refine tv_w_isV hy ?_
  refine br_f (by decide) ?_
  refine tv_both E f0 f1 (fun oc' a3' a4' a5' s0 s1 => ?_)
  refine br_f (by decide) ?_
  rw [tv_sh x hx, tv_sh y hy]
  refine tv_w_ask (fun a13' h13 => ?_)
  refine tv_least E.1 (tv_Rdy_two E f0 f1 s0 s1 (tv_p2lt x hx).1 (tv_p2lt y hy).1) h13 ?_ ?_
  · intro n hP hmin dm' hd' a6' a7' a8' a9' a10' a11' a12' a13''
    have h := (P1 n).mp hP
    exact Hs n h.1 h.2.1 h.2.2 _ _ _ _ _ _ _ _ _ _ _ _ _ _ _ _ _
  · intro hP dm' hd' a6' a7' a8' a9' a10' a11' a12' a13''
    exact Hn (fun a ha e e' => hP a ((P1 a).mpr ⟨ha, e, e'⟩)) _ _ _ _ _ _ _ _ _ _ _ _ _ _ _ _ _
def tv_nv (l : Nat) (tk : Nat → Nat) (m m' : Nat) : Bool := !(List.range 81).any (fun a => m.testBit (tv_v l tk a 0) && m'.testBit (tv_v l tk a 9))
theorem tv_nv_iff {l : Nat} {tk : Nat → Nat} {m m' : Nat} : tv_nv l tk m m' = true ↔ ∀ a, ¬ tv_P l tk m m' a := by
  unfold tv_nv
  rw [Bool.not_eq_true', ← Bool.not_eq_true, tv_any81]
  constructor
  · rintro h a ⟨ha, h0, h9⟩
    exact h ⟨a, ha, by rw [h0, h9]; rfl⟩
  · rintro h ⟨a, ha, hb⟩
    rw [Bool.and_eq_true] at hb
    exact h a ⟨ha, hb.1, hb.2⟩
theorem tv_never {post : Int32 → St1 → Prop} {oc dm hd fv ov : Int32} {a1 a2 a3 a4 a5 a6 a7 a8 a9 a10 a11 a12 a13 a14 : Nat → Int32} {l : Nat} {tk sz : Nat → Nat} {m m' : Nat} {p q : Int32} (E : tv_Env l tk sz a1 a2) (f0 : tv_full tk 0 (sz 0)) (f1 : tv_full tk 1 (sz 1)) (s0 : tv_S3 tk a3 0 (sz 0)) (s1 : tv_S3 tk a3 1 (sz 1)) (hm : m < 8) (hm' : m' < 8) (hp : p = nI m) (hq : q = nI m')
    (H : ∀ (dm' hd' fv' ov' : Int32) (a6' a7' a8' a9' a10' a11' a12' a13' : Nat → Int32), post (tv_i (tv_nv l tk m m')) (nI l, oc, dm', hd', fv', ov', a1, a2, a3, a4, a5, a6', a7', a8', a9', a10', a11', a12', a13', a14)) : wpX_never post (nI l, oc, dm, hd, fv, ov, a1, a2, a3, a4, a5, a6, a7, a8, a9, a10, a11, a12, a13, a14) p q := by
  subst hp
  subst hq
  unfold wpX_never
  dsimp only
  refine tv_w_ask (fun a13' h13 => ?_)
  refine tv_meetsR (op := fun _ => 7) E.1 (tv_Rdy_two E f0 f1 s0 s1 hm hm') h13 (fun j _ => (by decide : 7 < 8 ∧ 0 < 7)) (fun hs => ?_) (fun hs => ?_)
  · intro dm' hd' a6' a7' a8' a9' a10' a11' a12'
    have hb : tv_nv l tk m m' = false := by
      cases hc : tv_nv l tk m m' with
      | false => rfl
      | true =>
        obtain ⟨a, ha⟩ := tv_Sat7.mp hs
        exact absurd ha (tv_nv_iff.mp hc a)
    rw [hb] at H
    exact br_f (by decide) (H _ _ _ _ _ _ _ _ _ _ _ _)
  · intro dm' hd' a6' a7' a8' a9' a10' a11' a12'
    have hb : tv_nv l tk m m' = true := tv_nv_iff.mpr (fun a ha => hs (tv_Sat7.mpr ⟨a, ha⟩))
    rw [hb] at H
    exact br_t rfl (H _ _ _ _ _ _ _ _ _ _ _ _)
theorem tv_br {c : Bool} {A B : Prop} (h1 : c = true → B) (h0 : c = false → A) : (tv_i c = 0 → A) ∧ (¬ tv_i c = 0 → B) := by
  cases c with
  | false => exact br_t rfl (h0 rfl)
  | true => exact br_f (by decide) (h1 rfl)
theorem tv_entails {post : Int32 → St1 → Prop} {oc dm hd fv ov : Int32} {a1 a2 a3 a4 a5 a6 a7 a8 a9 a10 a11 a12 a13 a14 : Nat → Int32} {l : Nat} {tk sz : Nat → Nat} (E : tv_Env l tk sz a1 a2) (f0 : tv_full tk 0 (sz 0)) (f1 : tv_full tk 1 (sz 1))
    (H : ∀ (oc' dm' hd' fv' ov' : Int32) (a3' a4' a5' a6' a7' a8' a9' a10' a11' a12' a13' a14' : Nat → Int32), post (tv_i (tv_nv l tk 4 3)) (nI l, oc', dm', hd', fv', ov', a1, a2, a3', a4', a5', a6', a7', a8', a9', a10', a11', a12', a13', a14')) : wpX_entails post (nI l, oc, dm, hd, fv, ov, a1, a2, a3, a4, a5, a6, a7, a8, a9, a10, a11, a12, a13, a14) := by
  unfold wpX_entails
  dsimp only
  refine tv_both E f0 f1 (fun oc' a3' a4' a5' s0 s1 => ?_)
  refine br_f (by decide) ?_
  refine tv_never (m := 4) (m' := 3) E f0 f1 s0 s1 (by decide) (by decide) rfl rfl ?_
  intro dm' hd' fv' ov' a6' a7' a8' a9' a10' a11' a12' a13'
  refine tv_br (fun hc => ?_) (fun hc => ?_)
  · rw [hc] at H
    exact H _ _ _ _ _ _ _ _ _ _ _ _ _ _ _ _ _
  · rw [hc] at H
    exact H _ _ _ _ _ _ _ _ _ _ _ _ _ _ _ _ _
theorem tv_below {post : Int32 → St1 → Prop} {oc dm hd fv ov : Int32} {a1 a2 a3 a4 a5 a6 a7 a8 a9 a10 a11 a12 a13 a14 : Nat → Int32} {l : Nat} {tk sz : Nat → Nat} (E : tv_Env l tk sz a1 a2) (f0 : tv_full tk 0 (sz 0)) (f1 : tv_full tk 1 (sz 1))
    (H : ∀ (oc' dm' hd' fv' ov' : Int32) (a3' a4' a5' a6' a7' a8' a9' a10' a11' a12' a13' a14' : Nat → Int32), post (tv_i (tv_nv l tk 2 1 && tv_nv l tk 4 3)) (nI l, oc', dm', hd', fv', ov', a1, a2, a3', a4', a5', a6', a7', a8', a9', a10', a11', a12', a13', a14')) : wpX_below post (nI l, oc, dm, hd, fv, ov, a1, a2, a3, a4, a5, a6, a7, a8, a9, a10, a11, a12, a13, a14) := by
  unfold wpX_below
  dsimp only
  refine tv_both E f0 f1 (fun oc' a3' a4' a5' s0 s1 => ?_)
  refine br_f (by decide) ?_
  refine tv_never (m := 2) (m' := 1) E f0 f1 s0 s1 (by decide) (by decide) rfl rfl ?_
  intro dm' hd' fv' ov' a6' a7' a8' a9' a10' a11' a12' a13'
  refine tv_br (fun hc => ?_) (fun hc => ?_)
  · refine tv_never (m := 4) (m' := 3) E f0 f1 s0 s1 (by decide) (by decide) rfl rfl ?_
    intro dm'' hd'' fv'' ov'' a6'' a7'' a8'' a9'' a10'' a11'' a12'' a13''
    refine tv_br (fun hd' => ?_) (fun hd' => ?_)
    · rw [hc, hd'] at H
      exact H _ _ _ _ _ _ _ _ _ _ _ _ _ _ _ _ _
    · rw [hc, hd'] at H
      exact H _ _ _ _ _ _ _ _ _ _ _ _ _ _ _ _ _
  · rw [hc] at H
    exact H _ _ _ _ _ _ _ _ _ _ _ _ _ _ _ _ _
theorem tv_alike {post : Int32 → St1 → Prop} {oc dm hd fv ov : Int32} {a1 a2 a3 a4 a5 a6 a7 a8 a9 a10 a11 a12 a13 a14 : Nat → Int32} {l : Nat} {tk sz : Nat → Nat} (E : tv_Env l tk sz a1 a2) (f0 : tv_full tk 0 (sz 0)) (f1 : tv_full tk 1 (sz 1))
    (H : ∀ (oc' dm' hd' fv' ov' : Int32) (a3' a4' a5' a6' a7' a8' a9' a10' a11' a12' a13' a14' : Nat → Int32), post (tv_i (tv_nv l tk 1 6 && (tv_nv l tk 2 5 && tv_nv l tk 4 3))) (nI l, oc', dm', hd', fv', ov', a1, a2, a3', a4', a5', a6', a7', a8', a9', a10', a11', a12', a13', a14')) : wpX_alike post (nI l, oc, dm, hd, fv, ov, a1, a2, a3, a4, a5, a6, a7, a8, a9, a10, a11, a12, a13, a14) := by
  unfold wpX_alike
  dsimp only
  refine tv_both E f0 f1 (fun oc' a3' a4' a5' s0 s1 => ?_)
  refine br_f (by decide) ?_
  refine tv_never (m := 1) (m' := 6) E f0 f1 s0 s1 (by decide) (by decide) rfl rfl ?_
  intro dm' hd' fv' ov' a6' a7' a8' a9' a10' a11' a12' a13'
  refine tv_br (fun hc => ?_) (fun hc => ?_)
  · refine tv_never (m := 2) (m' := 5) E f0 f1 s0 s1 (by decide) (by decide) rfl rfl ?_
    intro dm'' hd'' fv'' ov'' a6'' a7'' a8'' a9'' a10'' a11'' a12'' a13''
    refine tv_br (fun he => ?_) (fun he => ?_)
    · refine tv_never (m := 4) (m' := 3) E f0 f1 s0 s1 (by decide) (by decide) rfl rfl ?_
      intro dm''' hd''' fv''' ov''' a6''' a7''' a8''' a9''' a10''' a11''' a12''' a13'''
      refine tv_br (fun hg => ?_) (fun hg => ?_)
      · rw [hc, he, hg] at H
        exact H _ _ _ _ _ _ _ _ _ _ _ _ _ _ _ _ _
      · rw [hc, he, hg] at H
        exact H _ _ _ _ _ _ _ _ _ _ _ _ _ _ _ _ _
    · rw [hc, he] at H
      exact H _ _ _ _ _ _ _ _ _ _ _ _ _ _ _ _ _
  · rw [hc] at H
    exact H _ _ _ _ _ _ _ _ _ _ _ _ _ _ _ _ _
end
section
/-! the law's checks -/
theorem tv_mk_4 {p : Nat → Bool} : tv_mk p 3 = 4 ↔ p 0 = false ∧ p 1 = false ∧ p 2 = true := by
  have b0 := tv_mk_bit p 0 (by omega)
  have b1 := tv_mk_bit p 1 (by omega)
  have b2 := tv_mk_bit p 2 (by omega)
  constructor
  · intro e
    rw [e] at b0 b1 b2
    exact ⟨b0.symm, b1.symm, b2.symm⟩
  · rintro ⟨h0, h1, h2⟩
    rw [tv_mk_t h2, tv_mk_f h1, tv_mk_f h0]
    show (0 : Nat) ||| 2 ^ 2 = 4
    decide
theorem tv_one {post : Int32 → St1 → Prop} {oc dm hd fv ov : Int32} {a1 a2 a3 a4 a5 a6 a7 a8 a9 a10 a11 a12 a13 a14 : Nat → Int32} {l : Nat} {tk sz : Nat → Nat} {f : Nat} (E : tv_Env l tk sz a1 a2) (hf : f < 2) (hfull : tv_full tk f (sz f))
    (H : ∀ (oc' dm' hd' fv' ov' : Int32) (a3' a4' a5' a6' a7' a8' a9' a10' a11' a12' a13' a14' : Nat → Int32), post 1 (nI l, oc', dm', hd', fv', ov', a1, a2, a3', a4', a5', a6', a7', a8', a9', a10', a11', a12', a13', a14')) : wpL_one post (nI l, oc, dm, hd, fv, ov, a1, a2, a3, a4, a5, a6, a7, a8, a9, a10, a11, a12, a13, a14) (nI f) := by
  have hM8 : tv_mk (tv_has l tk (f * 9)) 3 < 8 := tv_mk_lt _ 3 (by omega)
  have loop : ∀ (N i : Nat) (oc' dm' hd' fv' ov' : Int32) (a3' a4' a5' a6' a7' a8' a9' a10' a11' a12' a13' a14' : Nat → Int32), 3 - i < N → i ≤ 3 → wL_one_11 post (nI f) (nI (tv_mk (tv_has l tk (f * 9)) 3)) N (nI (tv_mk (tv_has l tk (f * 9)) i)) (nI i) (nI l) oc' dm' hd' fv' ov' a1 a2 a3' a4' a5' a6' a7' a8' a9' a10' a11' a12' a13' a14' := by
    intro N
    induction N with
    | zero => intro i oc' dm' hd' fv' ov' a3' a4' a5' a6' a7' a8' a9' a10' a11' a12' a13' a14' hN; exact absurd hN (by omega)
    | succ N ih =>
      intro i oc' dm' hd' fv' ov' a3' a4' a5' a6' a7' a8' a9' a10' a11' a12' a13' a14' hN hi3
      refine pk_le 3 i (fun z => ?_) (fun z => ?_)
      · have e : i = 3 := by omega
        subst e
        refine br_t rfl ?_
        refine tv_valid E hf hfull ?_
        intro oc'' dm'' hd'' fv'' ov'' a3'' a4'' a5'' a6'' a7'' a8'' a9'' a10'' a11'' a12'' a13'' a14''
        refine pk_eq (tv_mk (tv_has l tk (f * 9)) 3) 4 (fun e => ?_) (fun e => ?_) rfl rfl (by omega)
        · obtain ⟨h0, h1, h2⟩ := tv_mk_4.mp e
          rw [h0, h1]
          exact br_t rfl (H _ _ _ _ _ _ _ _ _ _ _ _ _ _ _ _ _)
        · have hb : (tv_has l tk (f * 9) 0 || tv_has l tk (f * 9) 1) = true := by
            cases h0 : tv_has l tk (f * 9) 0 with
            | true => rfl
            | false =>
              cases h1 : tv_has l tk (f * 9) 1 with
              | true => rfl
              | false =>
                have hv := tv_v3 l tk 0 (f * 9)
                have hh : tv_has l tk (f * 9) (tv_v l tk 0 (f * 9)) = true := tv_has_iff.mpr ⟨0, by omega, rfl⟩
                have h2 : tv_v l tk 0 (f * 9) = 0 ∨ tv_v l tk 0 (f * 9) = 1 ∨ tv_v l tk 0 (f * 9) = 2 := by omega
                rcases h2 with k | k | k
                · rw [k, h0] at hh
                  exact absurd hh (by simp)
                · rw [k, h1] at hh
                  exact absurd hh (by simp)
                · rw [k] at hh
                  exact absurd (tv_mk_4.mpr ⟨h0, h1, hh⟩) e
          rw [hb]
          exact br_t rfl (H _ _ _ _ _ _ _ _ _ _ _ _ _ _ _ _ _)
      · refine tv_find (x := i) E hf hfull z rfl ?_ ?_
        · intro a ha hva hmin oc'' dm'' hd'' fv'' ov'' a3'' a4'' a5'' a6'' a7'' a8'' a9'' a10'' a11'' a12'' a13'' a14''
          have hb : tv_has l tk (f * 9) i = true := tv_has_iff.mpr ⟨a, ha, hva⟩
          have e : nI (tv_mk (tv_has l tk (f * 9)) i) ||| ((1 : Int32) <<< (nI i &&& 31)) = nI (tv_mk (tv_has l tk (f * 9)) (i + 1)) := by
            rw [tv_sh i z, tv_mk_t hb]
            exact (tv_or8 _ (tv_mk_lt _ i (by omega)) i z).1
          refine br_f (nI_pos (by omega)) ?_
          rw [e]
          refine br_f (nI_pos (by omega)) ?_
          refine tv_w_value (a := a) E.1 hf (E.2.2.2 f hf).2 ha E.2.1 E.2.2.1 (E.2.2.2 f hf).1 hfull rfl ?_
          intro oc' a3' a4' a5' a14'
          refine br_t (by rw [hva]) ⟨a + 1, ?_⟩
          have in64 : ∀ (M b : Nat) (oc' dm' hd' fv' ov' : Int32) (a3' a4' a5' a6' a7' a8' a9' a10' a11' a12' a13' a14' : Nat → Int32), a - b < M → b ≤ a → wL_one_64 post (wL_one_11 post (nI f) (nI (tv_mk (tv_has l tk (f * 9)) 3)) N) (nI f) (nI (tv_mk (tv_has l tk (f * 9)) 3)) (nI (tv_mk (tv_has l tk (f * 9)) (i + 1))) (nI i) (nI a) M (nI b) (nI l) oc' dm' hd' fv' ov' a1 a2 a3' a4' a5' a6' a7' a8' a9' a10' a11' a12' a13' a14' := by
            intro M
            induction M with
            | zero => intro b oc' dm' hd' fv' ov' a3' a4' a5' a6' a7' a8' a9' a10' a11' a12' a13' a14' hM; exact absurd hM (by omega)
            | succ M ihM =>
              intro b oc' dm' hd' fv' ov' a3' a4' a5' a6' a7' a8' a9' a10' a11' a12' a13' a14' hM hba
              refine pk_le a b (fun y => nm_r (nI_1 i) (ih (i + 1) _ _ _ _ _ _ _ _ _ _ _ _ _ _ _ _ _ (by omega) (by omega))) (fun y => ?_)
              refine tv_w_value (a := b) E.1 hf (E.2.2.2 f hf).2 (by omega) E.2.1 E.2.2.1 (E.2.2.2 f hf).1 hfull rfl ?_
              intro oc'' a3'' a4'' a5'' a14''
              have hv3 := tv_v3 l tk b (f * 9)
              refine br_f (fun e2 => hmin b y ((nI_eq (by omega) (by omega)).mp e2)) (nm_r (nI_1 b) (ihM (b + 1) _ _ _ _ _ _ _ _ _ _ _ _ _ _ _ _ _ (by omega) (by omega)))
          exact in64 (a + 1) 0 _ _ _ _ _ _ _ _ _ _ _ _ _ _ _ _ _ (by omega) (by omega)
        · intro hne oc'' dm'' hd'' fv'' ov'' a3'' a4'' a5'' a6'' a7'' a8'' a9'' a10'' a11'' a12'' a13'' a14''
          have hb : tv_has l tk (f * 9) i = false := by
            cases hc : tv_has l tk (f * 9) i with
            | false => rfl
            | true =>
              obtain ⟨a, ha, e⟩ := tv_has_iff.mp hc
              exact absurd e (hne a ha)
          have key := ih (i + 1) oc'' dm'' hd'' fv'' ov'' a3'' a4'' a5'' a6'' a7'' a8'' a9'' a10'' a11'' a12'' a13'' a14'' (by omega) (by omega)
          rw [tv_mk_f hb] at key
          exact br_t (by decide) (br_t (by decide) (nm_r (nI_1 i) key))
  unfold wpL_one
  dsimp only
  refine tv_values E hf hfull ?_
  intro oc' dm' hd' fv' ov' a3' a4' a5' a6' a7' a8' a9' a10' a11' a12' a13' a14'
  exact ⟨4, loop 4 0 _ _ _ _ _ _ _ _ _ _ _ _ _ _ _ _ _ (by omega) (by omega)⟩
end
section
/-! the law's check of both formulas -/
def tv_has2 (l : Nat) (tk : Nat → Nat) (x y : Nat) : Bool := (List.range 81).any (fun a => tv_v l tk a 0 == x && tv_v l tk a 9 == y)
theorem tv_has2_iff {l : Nat} {tk : Nat → Nat} {x y : Nat} : tv_has2 l tk x y = true ↔ ∃ a, a < 81 ∧ tv_v l tk a 0 = x ∧ tv_v l tk a 9 = y := by
  unfold tv_has2
  rw [tv_any81]
  constructor
  · rintro ⟨a, ha, h⟩
    exact ⟨a, ha, by simpa using h⟩
  · rintro ⟨a, ha, h⟩
    exact ⟨a, ha, by simpa using h⟩
theorem tv_nv_of {l : Nat} {tk : Nat → Nat} {m m' : Nat} {b : Bool} (h : (∃ a, tv_P l tk m m' a) ↔ b = true) : tv_nv l tk m m' = !b := by
  cases hb : b with
  | true =>
    cases hc : tv_nv l tk m m' with
    | false => rfl
    | true =>
      obtain ⟨a, ha⟩ := h.mpr hb
      exact absurd ha (tv_nv_iff.mp hc a)
  | false => exact tv_nv_iff.mpr (fun a ha => by rw [h.mp ⟨a, ha⟩] at hb; exact absurd hb (by simp))
theorem tv_m1 : ∀ x, x < 3 → ((1 : Nat).testBit x = true ↔ x = 0) := by decide +kernel
theorem tv_m2 : ∀ x, x < 3 → ((2 : Nat).testBit x = true ↔ x = 1) := by decide +kernel
theorem tv_m4 : ∀ x, x < 3 → ((4 : Nat).testBit x = true ↔ x = 2) := by decide +kernel
theorem tv_m5 : ∀ x, x < 3 → ((5 : Nat).testBit x = true ↔ x = 0 ∨ x = 2) := by decide +kernel
theorem tv_m6 : ∀ x, x < 3 → ((6 : Nat).testBit x = true ↔ x = 1 ∨ x = 2) := by decide +kernel
theorem tv_nv_2 {l : Nat} {tk : Nat → Nat} {m m' x y y' : Nat} (h : ∀ k, k < 3 → (m.testBit k = true ↔ k = x)) (h' : ∀ k, k < 3 → (m'.testBit k = true ↔ k = y ∨ k = y')) : tv_nv l tk m m' = !(tv_has2 l tk x y || tv_has2 l tk x y') := by
  refine tv_nv_of ?_
  rw [Bool.or_eq_true, tv_has2_iff, tv_has2_iff]
  constructor
  · rintro ⟨a, ha, h0, h9⟩
    have e0 := (h _ (tv_v3 l tk a 0)).mp h0
    rcases (h' _ (tv_v3 l tk a 9)).mp h9 with e | e
    · exact Or.inl ⟨a, ha, e0, e⟩
    · exact Or.inr ⟨a, ha, e0, e⟩
  · rintro (⟨a, ha, e0, e⟩ | ⟨a, ha, e0, e⟩)
    · exact ⟨a, ha, (h _ (tv_v3 l tk a 0)).mpr e0, (h' _ (tv_v3 l tk a 9)).mpr (Or.inl e)⟩
    · exact ⟨a, ha, (h _ (tv_v3 l tk a 0)).mpr e0, (h' _ (tv_v3 l tk a 9)).mpr (Or.inr e)⟩
theorem tv_nv43 (l : Nat) (tk : Nat → Nat) : tv_nv l tk 4 3 = !(tv_has2 l tk 2 0 || tv_has2 l tk 2 1) := tv_nv_2 tv_m4 tv_bit3
theorem tv_nv16 (l : Nat) (tk : Nat → Nat) : tv_nv l tk 1 6 = !(tv_has2 l tk 0 1 || tv_has2 l tk 0 2) := tv_nv_2 tv_m1 tv_m6
theorem tv_nv25 (l : Nat) (tk : Nat → Nat) : tv_nv l tk 2 5 = !(tv_has2 l tk 1 0 || tv_has2 l tk 1 2) := tv_nv_2 tv_m2 tv_m5
theorem tv_nv21 (l : Nat) (tk : Nat → Nat) : tv_nv l tk 2 1 = !(tv_has2 l tk 1 0 || tv_has2 l tk 1 0) := tv_nv_2 tv_m2 (fun k hk => (tv_m1 k hk).trans ⟨Or.inl, fun h => h.elim id id⟩)
def tv_in (rel on : Nat → Nat → Bool) (v : Nat) : Nat → Bool → Bool
  | 0, b => b
  | w + 1, b => tv_in rel on v w b || (rel v w && on v w)
def tv_out (rel on : Nat → Nat → Bool) : Nat → Bool
  | 0 => false
  | v + 1 => tv_in rel on v 3 (tv_out rel on v)
def tv_ne (v w : Nat) : Bool := !(v == w)
def tv_gt (v w : Nat) : Bool := decide (w < v)
def tv_lt (v w : Nat) : Bool := decide (v < w)
theorem tv_out3 (rel on : Nat → Nat → Bool) : tv_out rel on 3 = (((((((((false || (rel 0 0 && on 0 0)) || (rel 0 1 && on 0 1)) || (rel 0 2 && on 0 2)) || (rel 1 0 && on 1 0)) || (rel 1 1 && on 1 1)) || (rel 1 2 && on 1 2)) || (rel 2 0 && on 2 0)) || (rel 2 1 && on 2 1)) || (rel 2 2 && on 2 2)) := rfl
theorem tv_fin1 (on : Nat → Nat → Bool) : (!(on 0 1 || on 0 2) && (!(on 1 0 || on 1 2) && !(on 2 0 || on 2 1))) = !(tv_out tv_ne on 3) := by
  rw [tv_out3]
  show _ = !(((((((((false || (false && on 0 0)) || (true && on 0 1)) || (true && on 0 2)) || (true && on 1 0)) || (false && on 1 1)) || (true && on 1 2)) || (true && on 2 0)) || (true && on 2 1)) || (false && on 2 2))
  cases on 0 1 <;> cases on 0 2 <;> cases on 1 0 <;> cases on 1 2 <;> cases on 2 0 <;> cases on 2 1 <;> rfl
theorem tv_fin2 (on : Nat → Nat → Bool) : (!(on 1 0 || on 1 0) && !(on 2 0 || on 2 1)) = !(tv_out tv_gt on 3) := by
  rw [tv_out3]
  show _ = !(((((((((false || (false && on 0 0)) || (false && on 0 1)) || (false && on 0 2)) || (true && on 1 0)) || (false && on 1 1)) || (false && on 1 2)) || (true && on 2 0)) || (true && on 2 1)) || (false && on 2 2))
  cases on 1 0 <;> cases on 2 0 <;> cases on 2 1 <;> rfl
theorem tv_fin3 (on : Nat → Nat → Bool) : (!(tv_out tv_ne on 3)) = (!(tv_out tv_gt on 3) && !(tv_out tv_lt on 3)) := by
  rw [tv_out3, tv_out3, tv_out3]
  show (!(((((((((false || (false && on 0 0)) || (true && on 0 1)) || (true && on 0 2)) || (true && on 1 0)) || (false && on 1 1)) || (true && on 1 2)) || (true && on 2 0)) || (true && on 2 1)) || (false && on 2 2))) = (!(((((((((false || (false && on 0 0)) || (false && on 0 1)) || (false && on 0 2)) || (true && on 1 0)) || (false && on 1 1)) || (false && on 1 2)) || (true && on 2 0)) || (true && on 2 1)) || (false && on 2 2)) && !(((((((((false || (false && on 0 0)) || (true && on 0 1)) || (true && on 0 2)) || (false && on 1 0)) || (false && on 1 1)) || (true && on 1 2)) || (false && on 2 0)) || (false && on 2 1)) || (false && on 2 2)))
  cases on 0 1 <;> cases on 0 2 <;> cases on 1 0 <;> cases on 1 2 <;> cases on 2 0 <;> cases on 2 1 <;> rfl
end
section
/-! the walk of the law's check of both formulas -/
theorem tv_b110 {post : Int32 → St1 → Prop} {J34 J43 : Int32 → Int32 → Int32 → Int32 → Int32 → Int32 → Int32 → Int32 → Int32 → Int32 → (Nat → Int32) → (Nat → Int32) → (Nat → Int32) → (Nat → Int32) → (Nat → Int32) → (Nat → Int32) → (Nat → Int32) → (Nat → Int32) → (Nat → Int32) → (Nat → Int32) → (Nat → Int32) → (Nat → Int32) → (Nat → Int32) → (Nat → Int32) → Prop} {lg oc dm hd fv ov : Int32} {a1 a2 a3 a4 a5 a6 a7 a8 a9 a10 a11 a12 a13 a14 : Nat → Int32} {x1 x2 z0 : Int32} {U on : Bool} {v w : Nat} (hv : v < 3) (hw : w < 3)
    (H : J43 x2 z0 (tv_i (U || (tv_lt v w && on))) (nI (w + 1)) lg oc dm hd fv ov a1 a2 a3 a4 a5 a6 a7 a8 a9 a10 a11 a12 a13 a14) : wL_both_110 post J34 J43 x1 x2 (tv_i U) (nI v) (nI w) (tv_i on) z0 lg oc dm hd fv ov a1 a2 a3 a4 a5 a6 a7 a8 a9 a10 a11 a12 a13 a14 := by
  unfold tv_lt at H
  refine tv_br (fun hU => nm_r (nI_1 w) ?_) (fun hU => pk_le w v (fun z => nm_r (nI_1 w) ?_) (fun z => tv_br (fun ho => nm_r (nI_1 w) ?_) (fun ho => nm_r (nI_1 w) ?_)))
  · rw [hU] at H
    exact H
  · rw [hU, decide_eq_false (by omega)] at H
    exact H
  · rw [hU, ho, decide_eq_true z] at H
    exact H
  · rw [hU, ho, decide_eq_true z] at H
    exact H
theorem tv_b88 {post : Int32 → St1 → Prop} {J34 J43 : Int32 → Int32 → Int32 → Int32 → Int32 → Int32 → Int32 → Int32 → Int32 → Int32 → (Nat → Int32) → (Nat → Int32) → (Nat → Int32) → (Nat → Int32) → (Nat → Int32) → (Nat → Int32) → (Nat → Int32) → (Nat → Int32) → (Nat → Int32) → (Nat → Int32) → (Nat → Int32) → (Nat → Int32) → (Nat → Int32) → (Nat → Int32) → Prop} {lg oc dm hd fv ov : Int32} {a1 a2 a3 a4 a5 a6 a7 a8 a9 a10 a11 a12 a13 a14 : Nat → Int32} {x1 z0 : Int32} {G U on : Bool} {v w : Nat} (hv : v < 3) (hw : w < 3)
    (H : J43 z0 (tv_i (G || (tv_gt v w && on))) (tv_i (U || (tv_lt v w && on))) (nI (w + 1)) lg oc dm hd fv ov a1 a2 a3 a4 a5 a6 a7 a8 a9 a10 a11 a12 a13 a14) : wL_both_88 post J34 J43 x1 (tv_i G) (tv_i U) (nI v) (nI w) (tv_i on) z0 lg oc dm hd fv ov a1 a2 a3 a4 a5 a6 a7 a8 a9 a10 a11 a12 a13 a14 := by
  unfold tv_gt at H
  refine tv_br (fun hU => tv_b110 hv hw ?_) (fun hU => pk_le v w (fun z => tv_b110 hv hw ?_) (fun z => tv_br (fun ho => tv_b110 hv hw ?_) (fun ho => tv_b110 hv hw ?_)))
  · rw [hU] at H
    exact H
  · rw [hU, decide_eq_false (by omega)] at H
    exact H
  · rw [hU, decide_eq_true z] at H
    rw [ho] at H ⊢
    exact H
  · rw [hU, decide_eq_true z] at H
    rw [ho] at H ⊢
    exact H
theorem tv_b65 {post : Int32 → St1 → Prop} {J34 J43 : Int32 → Int32 → Int32 → Int32 → Int32 → Int32 → Int32 → Int32 → Int32 → Int32 → (Nat → Int32) → (Nat → Int32) → (Nat → Int32) → (Nat → Int32) → (Nat → Int32) → (Nat → Int32) → (Nat → Int32) → (Nat → Int32) → (Nat → Int32) → (Nat → Int32) → (Nat → Int32) → (Nat → Int32) → (Nat → Int32) → (Nat → Int32) → Prop} {lg oc dm hd fv ov : Int32} {a1 a2 a3 a4 a5 a6 a7 a8 a9 a10 a11 a12 a13 a14 : Nat → Int32} {x1 : Int32} {A G U on : Bool} {v w : Nat} (hv : v < 3) (hw : w < 3)
    (H : J43 (tv_i (A || (tv_ne v w && on))) (tv_i (G || (tv_gt v w && on))) (tv_i (U || (tv_lt v w && on))) (nI (w + 1)) lg oc dm hd fv ov a1 a2 a3 a4 a5 a6 a7 a8 a9 a10 a11 a12 a13 a14) : wL_both_65 post J34 J43 x1 (tv_i A) (tv_i G) (tv_i U) (nI v) (nI w) (tv_i on) lg oc dm hd fv ov a1 a2 a3 a4 a5 a6 a7 a8 a9 a10 a11 a12 a13 a14 := by
  unfold tv_ne at H
  refine tv_br (fun hU => tv_b88 hv hw ?_) (fun hU => pk_eq v w (fun z => tv_b88 hv hw ?_) (fun z => tv_br (fun ho => tv_b88 hv hw ?_) (fun ho => tv_b88 hv hw ?_)))
  · rw [hU] at H
    exact H
  · rw [hU, show (v == w) = true by rw [z]; exact beq_self_eq_true w] at H
    exact H
  · rw [hU, show (v == w) = false from beq_false_of_ne z] at H
    rw [ho] at H ⊢
    exact H
  · rw [hU, show (v == w) = false from beq_false_of_ne z] at H
    rw [ho] at H ⊢
    exact H
theorem tv_i_ne {b c : Bool} (h : b = !c) : ¬ tv_i b = tv_i c := by
  subst h
  cases c <;> decide
theorem tv_lboth {post : Int32 → St1 → Prop} {oc dm hd fv ov : Int32} {a1 a2 a3 a4 a5 a6 a7 a8 a9 a10 a11 a12 a13 a14 : Nat → Int32} {l : Nat} {tk sz : Nat → Nat} (E : tv_Env l tk sz a1 a2) (f0 : tv_full tk 0 (sz 0)) (f1 : tv_full tk 1 (sz 1))
    (H : ∀ (oc' dm' hd' fv' ov' : Int32) (a3' a4' a5' a6' a7' a8' a9' a10' a11' a12' a13' a14' : Nat → Int32), post 1 (nI l, oc', dm', hd', fv', ov', a1, a2, a3', a4', a5', a6', a7', a8', a9', a10', a11', a12', a13', a14')) : wpL_both post (nI l, oc, dm, hd, fv, ov, a1, a2, a3, a4, a5, a6, a7, a8, a9, a10, a11, a12, a13, a14) := by
  have findB : ∀ {q : Int32 → St1 → Prop} {oc dm hd fv ov : Int32} {a3 a4 a5 a6 a7 a8 a9 a10 a11 a12 a13 a14 : Nat → Int32} {x y : Nat} {p p' : Int32}, x < 3 → y < 3 → p = nI x → p' = nI y → (tv_has2 l tk x y = true → ∀ (a : Nat) (oc' dm' hd' fv' ov' : Int32) (a3' a4' a5' a6' a7' a8' a9' a10' a11' a12' a13' a14' : Nat → Int32), a < 81 → q (nI a) (nI l, oc', dm', hd', fv', ov', a1, a2, a3', a4', a5', a6', a7', a8', a9', a10', a11', a12', a13', a14')) → (tv_has2 l tk x y = false → ∀ (oc' dm' hd' fv' ov' : Int32) (a3' a4' a5' a6' a7' a8' a9' a10' a11' a12' a13' a14' : Nat → Int32), q (-1) (nI l, oc', dm', hd', fv', ov', a1, a2, a3', a4', a5', a6', a7', a8', a9', a10', a11', a12', a13', a14')) → wpX_findBoth q (nI l, oc, dm, hd, fv, ov, a1, a2, a3, a4, a5, a6, a7, a8, a9, a10, a11, a12, a13, a14) p p' := by
    intro q oc dm hd fv ov a3 a4 a5 a6 a7 a8 a9 a10 a11 a12 a13 a14 x y p p' hx hy hp hp' h1 h0
    refine tv_findBoth E f0 f1 hx hy hp hp' ?_ ?_
    · intro a ha e0 e9
      intro oc' dm' hd' fv' ov' a3' a4' a5' a6' a7' a8' a9' a10' a11' a12' a13' a14'
      exact h1 (tv_has2_iff.mpr ⟨a, ha, e0, e9⟩) a oc' dm' hd' fv' ov' a3' a4' a5' a6' a7' a8' a9' a10' a11' a12' a13' a14' ha
    · intro hn
      refine h0 ?_
      cases hc : tv_has2 l tk x y with
      | false => rfl
      | true =>
        obtain ⟨a, ha, e0, e9⟩ := tv_has2_iff.mp hc
        exact absurd e9 (hn a ha e0)
  have loop : ∀ (N v : Nat) (oc' dm' hd' fv' ov' : Int32) (a3' a4' a5' a6' a7' a8' a9' a10' a11' a12' a13' a14' : Nat → Int32), 3 - v < N → v ≤ 3 → wL_both_34 post (tv_i (tv_has2 l tk 2 0 || tv_has2 l tk 2 1)) N (tv_i (tv_out tv_ne (tv_has2 l tk) v)) (tv_i (tv_out tv_gt (tv_has2 l tk) v)) (tv_i (tv_out tv_lt (tv_has2 l tk) v)) (nI v) (nI l) oc' dm' hd' fv' ov' a1 a2 a3' a4' a5' a6' a7' a8' a9' a10' a11' a12' a13' a14' := by
    intro N
    induction N with
    | zero => intro v oc' dm' hd' fv' ov' a3' a4' a5' a6' a7' a8' a9' a10' a11' a12' a13' a14' hN; exact absurd hN (by omega)
    | succ N ih =>
      intro v oc' dm' hd' fv' ov' a3' a4' a5' a6' a7' a8' a9' a10' a11' a12' a13' a14' hN hv3
      refine pk_le 3 v (fun z => ?_) (fun z => ?_)
      · have e : v = 3 := by omega
        subst e
        refine tv_below E f0 f1 ?_
        intro oc'' dm'' hd'' fv'' ov'' a3'' a4'' a5'' a6'' a7'' a8'' a9'' a10'' a11'' a12'' a13'' a14''
        refine tv_entails E f0 f1 ?_
        intro oc''' dm''' hd''' fv''' ov''' a3''' a4''' a5''' a6''' a7''' a8''' a9''' a10''' a11''' a12''' a13''' a14'''
        have e1 : (tv_nv l tk 1 6 && (tv_nv l tk 2 5 && tv_nv l tk 4 3)) = !(tv_out tv_ne (tv_has2 l tk) 3) := by
          rw [tv_nv16, tv_nv25, tv_nv43]
          exact tv_fin1 (tv_has2 l tk)
        have e2 : (tv_nv l tk 2 1 && tv_nv l tk 4 3) = !(tv_out tv_gt (tv_has2 l tk) 3) := by
          rw [tv_nv21, tv_nv43]
          exact tv_fin2 (tv_has2 l tk)
        have e3 := tv_fin3 (tv_has2 l tk)
        refine br_f (tv_i_ne (tv_nv43 l tk)) ?_
        refine tv_alike E f0 f1 ?_
        intro oc' dm' hd' fv' ov' a3' a4' a5' a6' a7' a8' a9' a10' a11' a12' a13' a14'
        refine br_f (tv_i_ne e1) (br_f (tv_i_ne e2) ?_)
        refine tv_alike E f0 f1 ?_
        intro oc'' dm'' hd'' fv'' ov'' a3'' a4'' a5'' a6'' a7'' a8'' a9'' a10'' a11'' a12'' a13'' a14''
        rw [e1, e3, e2]
        refine tv_br (fun hg => tv_br (fun hu => ?_) (fun hu => ?_)) (fun hg => ?_)
        · rw [hg, hu]
          exact br_t rfl (H _ _ _ _ _ _ _ _ _ _ _ _ _ _ _ _ _)
        · rw [hg, hu]
          exact br_t rfl (H _ _ _ _ _ _ _ _ _ _ _ _ _ _ _ _ _)
        · rw [hg]
          exact br_t rfl (H _ _ _ _ _ _ _ _ _ _ _ _ _ _ _ _ _)
      · refine ⟨4, ?_⟩
        have inner : ∀ (M w : Nat) (oc' dm' hd' fv' ov' : Int32) (a3' a4' a5' a6' a7' a8' a9' a10' a11' a12' a13' a14' : Nat → Int32), 3 - w < M → w ≤ 3 → wL_both_43 post (wL_both_34 post (tv_i (tv_has2 l tk 2 0 || tv_has2 l tk 2 1)) N) (tv_i (tv_has2 l tk 2 0 || tv_has2 l tk 2 1)) (nI v) M (tv_i (tv_in tv_ne (tv_has2 l tk) v w (tv_out tv_ne (tv_has2 l tk) v))) (tv_i (tv_in tv_gt (tv_has2 l tk) v w (tv_out tv_gt (tv_has2 l tk) v))) (tv_i (tv_in tv_lt (tv_has2 l tk) v w (tv_out tv_lt (tv_has2 l tk) v))) (nI w) (nI l) oc' dm' hd' fv' ov' a1 a2 a3' a4' a5' a6' a7' a8' a9' a10' a11' a12' a13' a14' := by
          intro M
          induction M with
          | zero => intro w oc' dm' hd' fv' ov' a3' a4' a5' a6' a7' a8' a9' a10' a11' a12' a13' a14' hM; exact absurd hM (by omega)
          | succ M ihM =>
            intro w oc' dm' hd' fv' ov' a3' a4' a5' a6' a7' a8' a9' a10' a11' a12' a13' a14' hM hw3
            refine pk_le 3 w (fun y => nm_r (nI_1 v) ?_) (fun y => ?_)
            · have e : w = 3 := by omega
              subst e
              exact ih (v + 1) _ _ _ _ _ _ _ _ _ _ _ _ _ _ _ _ _ (by omega) (by omega)
            · refine findB (x := v) (y := w) z y rfl rfl ?_ ?_
              · intro ho a oc'' dm'' hd'' fv'' ov'' a3'' a4'' a5'' a6'' a7'' a8'' a9'' a10'' a11'' a12'' a13'' a14'' ha
                refine br_f (nI_pos (by omega)) ?_
                refine tv_b65 (on := true) z y ?_
                have key := ihM (w + 1) oc'' dm'' hd'' fv'' ov'' a3'' a4'' a5'' a6'' a7'' a8'' a9'' a10'' a11'' a12'' a13'' a14'' (by omega) (by omega)
                have s1 : ∀ rel : Nat → Nat → Bool, tv_in rel (tv_has2 l tk) v (w + 1) (tv_out rel (tv_has2 l tk) v) = (tv_in rel (tv_has2 l tk) v w (tv_out rel (tv_has2 l tk) v) || (rel v w && true)) := fun rel => by rw [← ho]; rfl
                rw [s1, s1, s1] at key
                exact key
              · intro ho oc'' dm'' hd'' fv'' ov'' a3'' a4'' a5'' a6'' a7'' a8'' a9'' a10'' a11'' a12'' a13'' a14''
                refine br_t (by decide) ?_
                refine tv_b65 (on := false) z y ?_
                have key := ihM (w + 1) oc'' dm'' hd'' fv'' ov'' a3'' a4'' a5'' a6'' a7'' a8'' a9'' a10'' a11'' a12'' a13'' a14'' (by omega) (by omega)
                have s1 : ∀ rel : Nat → Nat → Bool, tv_in rel (tv_has2 l tk) v (w + 1) (tv_out rel (tv_has2 l tk) v) = (tv_in rel (tv_has2 l tk) v w (tv_out rel (tv_has2 l tk) v) || (rel v w && false)) := fun rel => by rw [← ho]; rfl
                rw [s1, s1, s1] at key
                exact key
        exact inner 4 0 _ _ _ _ _ _ _ _ _ _ _ _ _ _ _ _ _ (by omega) (by omega)
  unfold wpL_both
  dsimp only
  refine findB (x := 2) (y := 0) (by omega) (by omega) rfl rfl ?_ ?_
  · intro ho a oc' dm' hd' fv' ov' a3' a4' a5' a6' a7' a8' a9' a10' a11' a12' a13' a14' ha
    refine br_t (nI_pos' (by omega)) ⟨4, ?_⟩
    have key := loop 4 0 oc' dm' hd' fv' ov' a3' a4' a5' a6' a7' a8' a9' a10' a11' a12' a13' a14' (by omega) (by omega)
    rw [ho] at key
    exact key
  · intro ho oc' dm' hd' fv' ov' a3' a4' a5' a6' a7' a8' a9' a10' a11' a12' a13' a14'
    refine br_f (by decide) ?_
    refine findB (x := 2) (y := 1) (by omega) (by omega) rfl rfl ?_ ?_
    · intro ho' a oc'' dm'' hd'' fv'' ov'' a3'' a4'' a5'' a6'' a7'' a8'' a9'' a10'' a11'' a12'' a13'' a14'' ha
      refine br_f (nI_pos (by omega)) ⟨4, ?_⟩
      have key := loop 4 0 oc'' dm'' hd'' fv'' ov'' a3'' a4'' a5'' a6'' a7'' a8'' a9'' a10'' a11'' a12'' a13'' a14'' (by omega) (by omega)
      rw [ho, ho'] at key
      exact key
    · intro ho' oc'' dm'' hd'' fv'' ov'' a3'' a4'' a5'' a6'' a7'' a8'' a9'' a10'' a11'' a12'' a13'' a14''
      refine br_t (by decide) ⟨4, ?_⟩
      have key := loop 4 0 oc'' dm'' hd'' fv'' ov'' a3'' a4'' a5'' a6'' a7'' a8'' a9'' a10'' a11'' a12'' a13'' a14'' (by omega) (by omega)
      rw [ho, ho'] at key
      exact key
end
section
/-! the law's loop -/
theorem tv_w_pick {post : Int32 → Prop} {u : St2} {p q : Int32} (H : ∀ t, t < 8 → post (nI t)) : wpL_pick post u p q := by
  obtain ⟨j, hj, e⟩ := pk_andE q (m := 7) 3 (by decide)
  have hj8 : j < 8 := hj
  refine nm_r (e' := nI j) e (br_c (fun _ => H j hj8) (fun _ => pk_le 4 j (fun z => H j hj8) (fun z => br_c (fun _ => H j hj8) (fun _ => ?_))))
  have := H (j + 4) (by omega)
  rw [← nI_add] at this
  exact this
theorem tv_w_feed {post : Int32 → St1 → Prop} {oc dm hd fv ov : Int32} {a1 a2 a3 a4 a5 a6 a7 a8 a9 a10 a11 a12 a13 a14 : Nat → Int32} {l : Nat} {tk sz : Nat → Nat} {f t : Nat} (E : tv_Env l tk sz a1 a2) (hf : f < 2) (ht : t < 8)
    (H : ∀ (r : Int32) (tk' sz' : Nat → Nat) (oc' dm' hd' fv' ov' : Int32) (a3' a4' a5' a6' a7' a8' a9' a10' a11' a12' a13' a14' a1' a2' : Nat → Int32), tv_Env l tk' sz' a1' a2' → post r (nI l, oc', dm', hd', fv', ov', a1', a2', a3', a4', a5', a6', a7', a8', a9', a10', a11', a12', a13', a14')) : wpX_feed post (nI l, oc, dm, hd, fv, ov, a1, a2, a3, a4, a5, a6, a7, a8, a9, a10, a11, a12, a13, a14) (nI f) (nI t) := by
  have h2 := E.2.2.2 f hf
  have e2 : a2 (nI f).toNatClampNeg = nI (sz f) := by rw [nI_clamp (by omega)]; exact h2.1
  unfold wpX_feed
  dsimp only
  refine tv_w_isF hf ?_
  refine br_f (by decide) (pk_lt t 0 (fun z => absurd z (by omega)) (fun _ => pk_lt 7 t (fun z => absurd z (by omega)) (fun _ => ⟨pk_in f 2 hf, pk_le 9 (sz f) (fun z => H _ tk sz _ _ _ _ _ _ _ _ _ _ _ _ _ _ _ _ _ a1 a2 E) (fun z => ?_) rfl e2⟩)))
  refine tv_w_complete hf h2.2 E.2.1 E.2.2.1 h2.1 (fun _ oc' a3' a4' a5' _ _ => ?_) (fun _ oc' a3' a4' a5' _ => ?_)
  · exact br_f (by decide) (H _ tk sz _ _ _ _ _ _ _ _ _ _ _ _ _ _ _ _ _ a1 a2 E)
  · have e9 : nI f * 9 + a2 (nI f).toNatClampNeg = nI (f * 9 + sz f) := by rw [e2, tv_k9]
    refine br_t rfl ⟨pk_in f 2 hf, pk_in (f * 9 + sz f) 18 (by omega) e9, nm_r (e' := upd a1 (f * 9 + sz f) (nI t)) (by rw [e9, nI_clamp (by omega), tv_b8 t (by omega)]) ⟨pk_in f 2 hf, pk_in f 2 hf, nm_r (e' := upd a2 f (nI (sz f + 1))) (by show upd a2 (nI f).toNatClampNeg ((a2 (nI f).toNatClampNeg + 1).toInt8.toInt32) = _; rw [e2, nI_clamp (by omega), nI_1, tv_b8 _ (by omega)]) ⟨pk_in f 2 hf, ?_⟩⟩⟩
    refine H _ (tv_up tk (f * 9 + sz f) t) (tv_up sz f (sz f + 1)) _ _ _ _ _ _ _ _ _ _ _ _ _ _ _ _ _ _ _ ⟨E.1, fun j hj => ?_, fun j hj => ?_, fun g hg => ?_⟩
    · by_cases e : j = f * 9 + sz f
      · rw [e, pk_us, tv_up_s]
      · rw [pk_un e, tv_up_n e]
        exact E.2.1 j hj
    · by_cases e : j = f * 9 + sz f
      · rw [e, tv_up_s]
        exact ht
      · rw [tv_up_n e]
        exact E.2.2.1 j hj
    · by_cases e : g = f
      · rw [e, pk_us, tv_up_s]
        exact ⟨rfl, z⟩
      · rw [pk_un e, tv_up_n e]
        exact E.2.2.2 g hg
theorem tv_w_back {post : Int32 → St1 → Prop} {oc dm hd fv ov : Int32} {a1 a2 a3 a4 a5 a6 a7 a8 a9 a10 a11 a12 a13 a14 : Nat → Int32} {l : Nat} {tk sz : Nat → Nat} {f : Nat} (E : tv_Env l tk sz a1 a2) (hf : f < 2)
    (H : ∀ (r : Int32) (sz' : Nat → Nat) (a2' : Nat → Int32), tv_Env l tk sz' a1 a2' → post r (nI l, oc, dm, hd, fv, ov, a1, a2', a3, a4, a5, a6, a7, a8, a9, a10, a11, a12, a13, a14)) : wpX_back post (nI l, oc, dm, hd, fv, ov, a1, a2, a3, a4, a5, a6, a7, a8, a9, a10, a11, a12, a13, a14) (nI f) := by
  have h2 := E.2.2.2 f hf
  have e2 : a2 (nI f).toNatClampNeg = nI (sz f) := by rw [nI_clamp (by omega)]; exact h2.1
  unfold wpX_back
  dsimp only
  refine tv_w_isF hf ?_
  refine br_f (by decide) ⟨pk_in f 2 hf, pk_eq (sz f) 0 (fun z => H _ sz a2 E) (fun z => ⟨pk_in f 2 hf, pk_in f 2 hf, nm_r (e' := upd a2 f (nI (sz f - 1))) (by rw [e2, nI_clamp (by omega), show nI (sz f) - 1 = nI (sz f - 1) from pk_sub (b := 1) (by omega), tv_b8 _ (by omega)]) ⟨pk_in f 2 hf, pk_in (f * 9 + (sz f - 1)) 18 (by omega) (by rw [nI_clamp (by omega), pk_us, tv_k9]), ?_⟩⟩) e2⟩
  refine H _ (tv_up sz f (sz f - 1)) _ ⟨E.1, E.2.1, E.2.2.1, fun g hg => ?_⟩
  by_cases e : g = f
  · rw [e, pk_us, tv_up_s]
    exact ⟨rfl, by omega⟩
  · rw [pk_un e, tv_up_n e]
    exact E.2.2.2 g hg
theorem tv_w_setLogic {post : Int32 → St1 → Prop} {lg oc dm hd fv ov : Int32} {a1 a2 a3 a4 a5 a6 a7 a8 a9 a10 a11 a12 a13 a14 : Nat → Int32} {l : Nat} {p : Int32} (hl : l ≤ 2) (hp : p = nI l) (H : post 1 (nI l, oc, dm, hd, fv, ov, a1, a2, a3, a4, a5, a6, a7, a8, a9, a10, a11, a12, a13, a14)) : wpX_setLogic post (lg, oc, dm, hd, fv, ov, a1, a2, a3, a4, a5, a6, a7, a8, a9, a10, a11, a12, a13, a14) p := by
  subst hp
  exact pk_lt l 0 (fun z => absurd z (by omega)) (fun _ => pk_le l 2 (fun _ => H) (fun z => absurd z (by omega)))
theorem tv_mod3 (x : Int32) : ∃ l : Nat, l ≤ 2 ∧ (x &&& 255) - (x &&& 255) / 3 * 3 = nI l := by
  obtain ⟨j, hj, e⟩ := pk_andE x (m := 255) 8 (by decide)
  have hj8 : j < 256 := hj
  refine ⟨j % 3, by omega, ?_⟩
  rw [e]
  exact pk_rem (d := 3) (by omega) (by omega) (by omega)
/-- what is known of the loop's next turn -/
def tv_Nx (J : Int32 → Int32 → Int32 → Int32 → Int32 → Int32 → Int32 → Int32 → Int32 → (Nat → Int32) → (Nat → Int32) → (Nat → Int32) → (Nat → Int32) → (Nat → Int32) → (Nat → Int32) → (Nat → Int32) → (Nat → Int32) → (Nat → Int32) → (Nat → Int32) → (Nat → Int32) → (Nat → Int32) → (Nat → Int32) → (Nat → Int32) → Prop) (k : Nat) : Prop := ∀ (x2 x3 : Int32) (l : Nat) (tk sz : Nat → Nat) (oc dm hd fv ov : Int32) (a3 a4 a5 a6 a7 a8 a9 a10 a11 a12 a13 a14 a1 a2 : Nat → Int32), tv_Env l tk sz a1 a2 → J x2 x3 (nI (k + 1)) (nI l) oc dm hd fv ov a1 a2 a3 a4 a5 a6 a7 a8 a9 a10 a11 a12 a13 a14
theorem tv_213 {L : Nat} {xs : Nat → Int32} {J : Int32 → Int32 → Int32 → Int32 → Int32 → Int32 → Int32 → Int32 → Int32 → (Nat → Int32) → (Nat → Int32) → (Nat → Int32) → (Nat → Int32) → (Nat → Int32) → (Nat → Int32) → (Nat → Int32) → (Nat → Int32) → (Nat → Int32) → (Nat → Int32) → (Nat → Int32) → (Nat → Int32) → (Nat → Int32) → (Nat → Int32) → Prop} {oc dm hd fv ov : Int32} {a1 a2 a3 a4 a5 a6 a7 a8 a9 a10 a11 a12 a13 a14 : Nat → Int32} {x2 x3 : Int32} {kc ks k : Nat} {l : Nat} {tk sz : Nat → Nat} (hJ : tv_Nx J k) (E : tv_Env l tk sz a1 a2) : wL_law_213 (fun r => r = 1) L xs J x2 x3 (nI k) kc ks (nI l) oc dm hd fv ov a1 a2 a3 a4 a5 a6 a7 a8 a9 a10 a11 a12 a13 a14 := by
  unfold wL_law_213
  refine tv_w_complete (f := 0) (by omega) (E.2.2.2 0 (by omega)).2 E.2.1 E.2.2.1 (E.2.2.2 0 (by omega)).1 (fun f0 oc' a3' a4' a5' _ _ => ?_) (fun _ oc' a3' a4' a5' _ => br_t rfl (nm_r (nI_1 k) (hJ x2 x3 l tk sz _ _ _ _ _ _ _ _ _ _ _ _ _ _ _ _ _ a1 a2 E)))
  refine br_f (by decide) ?_
  refine tv_w_complete (f := 1) (by omega) (E.2.2.2 1 (by omega)).2 E.2.1 E.2.2.1 (E.2.2.2 1 (by omega)).1 (fun f1 oc'' a3'' a4'' a5'' _ _ => ?_) (fun _ oc'' a3'' a4'' a5'' _ => br_t rfl (nm_r (nI_1 k) (hJ x2 x3 l tk sz _ _ _ _ _ _ _ _ _ _ _ _ _ _ _ _ _ a1 a2 E)))
  refine br_f (by decide) ?_
  refine tv_lboth E f0 f1 ?_
  intro oc' dm' hd' fv' ov' a3' a4' a5' a6' a7' a8' a9' a10' a11' a12' a13' a14'
  exact br_f (by decide) (nm_r (nI_1 k) (hJ x2 x3 l tk sz _ _ _ _ _ _ _ _ _ _ _ _ _ _ _ _ _ a1 a2 E))
theorem tv_195 {L : Nat} {xs : Nat → Int32} {J : Int32 → Int32 → Int32 → Int32 → Int32 → Int32 → Int32 → Int32 → Int32 → (Nat → Int32) → (Nat → Int32) → (Nat → Int32) → (Nat → Int32) → (Nat → Int32) → (Nat → Int32) → (Nat → Int32) → (Nat → Int32) → (Nat → Int32) → (Nat → Int32) → (Nat → Int32) → (Nat → Int32) → (Nat → Int32) → (Nat → Int32) → Prop} {oc dm hd fv ov : Int32} {a1 a2 a3 a4 a5 a6 a7 a8 a9 a10 a11 a12 a13 a14 : Nat → Int32} {x2 x3 : Int32} {kc ks k f : Nat} {l : Nat} {tk sz : Nat → Nat} (hJ : tv_Nx J k) (hf : f < 2) (E : tv_Env l tk sz a1 a2) : wL_law_195 (fun r => r = 1) L xs J x2 x3 (nI k) (nI f) kc ks (nI l) oc dm hd fv ov a1 a2 a3 a4 a5 a6 a7 a8 a9 a10 a11 a12 a13 a14 := by
  unfold wL_law_195
  refine tv_w_complete hf (E.2.2.2 f hf).2 E.2.1 E.2.2.1 (E.2.2.2 f hf).1 (fun hfull oc' a3' a4' a5' _ _ => ?_) (fun _ oc' a3' a4' a5' _ => br_t rfl (tv_213 hJ E))
  refine br_f (by decide) ?_
  refine tv_one E hf hfull ?_
  intro oc' dm' hd' fv' ov' a3' a4' a5' a6' a7' a8' a9' a10' a11' a12' a13' a14'
  exact br_f (by decide) (tv_213 hJ E)
theorem tv_163 {L : Nat} {xs : Nat → Int32} {J : Int32 → Int32 → Int32 → Int32 → Int32 → Int32 → Int32 → Int32 → Int32 → (Nat → Int32) → (Nat → Int32) → (Nat → Int32) → (Nat → Int32) → (Nat → Int32) → (Nat → Int32) → (Nat → Int32) → (Nat → Int32) → (Nat → Int32) → (Nat → Int32) → (Nat → Int32) → (Nat → Int32) → (Nat → Int32) → (Nat → Int32) → Prop} {oc dm hd fv ov : Int32} {a1 a2 a3 a4 a5 a6 a7 a8 a9 a10 a11 a12 a13 a14 : Nat → Int32} {x2 x3 : Int32} {kc ks k f : Nat} {l : Nat} {tk sz : Nat → Nat} (hk : k < L) (hL : L ≤ 260) (hJ : tv_Nx J k) (hf : f < 2) (E : tv_Env l tk sz a1 a2) : wL_law_163 (fun r => r = 1) L xs J x2 (nI k) (nI f) x3 kc ks (nI l) oc dm hd fv ov a1 a2 a3 a4 a5 a6 a7 a8 a9 a10 a11 a12 a13 a14 := by
  refine ⟨pk_in k L hk, br_c (fun _ => ⟨pk_in k L hk, by decide, ?_⟩) (fun _ => tv_195 hJ hf E)⟩
  obtain ⟨l', hl', e⟩ := tv_mod3 (xs (nI k).toNatClampNeg >>> ((15 : Int32) &&& 31))
  refine tv_w_setLogic hl' e ?_
  exact tv_195 hJ hf ⟨hl', E.2⟩
theorem tv_139 {L : Nat} {xs : Nat → Int32} {J : Int32 → Int32 → Int32 → Int32 → Int32 → Int32 → Int32 → Int32 → Int32 → (Nat → Int32) → (Nat → Int32) → (Nat → Int32) → (Nat → Int32) → (Nat → Int32) → (Nat → Int32) → (Nat → Int32) → (Nat → Int32) → (Nat → Int32) → (Nat → Int32) → (Nat → Int32) → (Nat → Int32) → (Nat → Int32) → (Nat → Int32) → Prop} {oc dm hd fv ov : Int32} {a1 a2 a3 a4 a5 a6 a7 a8 a9 a10 a11 a12 a13 a14 : Nat → Int32} {x2 x3 x6 : Int32} {kc ks k f : Nat} {l : Nat} {tk sz : Nat → Nat} (hk : k < L) (hL : L ≤ 260) (hJ : tv_Nx J k) (hf : f < 2) (E : tv_Env l tk sz a1 a2) : wL_law_139 (fun r => r = 1) L xs J x2 x3 (nI k) (nI f) x6 kc ks (nI l) oc dm hd fv ov a1 a2 a3 a4 a5 a6 a7 a8 a9 a10 a11 a12 a13 a14 := by
  have h150 : ∀ z0 : Int32, wL_law_150 (fun r => r = 1) L xs J x3 (nI k) (nI f) x6 z0 kc ks (nI l) oc dm hd fv ov a1 a2 a3 a4 a5 a6 a7 a8 a9 a10 a11 a12 a13 a14 := fun z0 => br_c (fun _ => tv_163 hk hL hJ hf E) (fun _ => tv_163 hk hL hJ hf E)
  exact br_c (fun _ => h150 _) (fun _ => h150 _)
theorem tv_96 {L : Nat} {xs : Nat → Int32} {J : Int32 → Int32 → Int32 → Int32 → Int32 → Int32 → Int32 → Int32 → Int32 → (Nat → Int32) → (Nat → Int32) → (Nat → Int32) → (Nat → Int32) → (Nat → Int32) → (Nat → Int32) → (Nat → Int32) → (Nat → Int32) → (Nat → Int32) → (Nat → Int32) → (Nat → Int32) → (Nat → Int32) → (Nat → Int32) → (Nat → Int32) → Prop} {oc dm hd fv ov : Int32} {a1 a2 a3 a4 a5 a6 a7 a8 a9 a10 a11 a12 a13 a14 : Nat → Int32} {x2 x3 x8 z0 : Int32} {kc ks k f : Nat} {l : Nat} {tk sz : Nat → Nat} (hk : k < L) (hL : L ≤ 260) (hJ : tv_Nx J k) (hf : f < 2) (E : tv_Env l tk sz a1 a2) : wL_law_96 (fun r => r = 1) L xs J x2 x3 (nI k) (nI f) x8 z0 kc ks (nI l) oc dm hd fv ov a1 a2 a3 a4 a5 a6 a7 a8 a9 a10 a11 a12 a13 a14 := by
  refine br_c (fun _ => tv_139 hk hL hJ hf E) (fun _ => ⟨pk_in k L hk, br_c (fun _ => ?_) (fun _ => tv_139 hk hL hJ hf E)⟩)
  refine tv_w_back E hf ?_
  intro r sz' a2' E'
  exact br_c (fun _ => tv_139 hk hL hJ hf E') (fun _ => tv_139 hk hL hJ hf E')
theorem tv_61 {L : Nat} {xs : Nat → Int32} {J : Int32 → Int32 → Int32 → Int32 → Int32 → Int32 → Int32 → Int32 → Int32 → (Nat → Int32) → (Nat → Int32) → (Nat → Int32) → (Nat → Int32) → (Nat → Int32) → (Nat → Int32) → (Nat → Int32) → (Nat → Int32) → (Nat → Int32) → (Nat → Int32) → (Nat → Int32) → (Nat → Int32) → (Nat → Int32) → (Nat → Int32) → Prop} {oc dm hd fv ov : Int32} {a1 a2 a3 a4 a5 a6 a7 a8 a9 a10 a11 a12 a13 a14 : Nat → Int32} {x2 x3 z0 : Int32} {kc ks k f : Nat} {l : Nat} {tk sz : Nat → Nat} (hk : k < L) (hL : L ≤ 260) (hJ : tv_Nx J k) (hf : f < 2) (E : tv_Env l tk sz a1 a2) : wL_law_61 (fun r => r = 1) L xs J x2 x3 (nI k) (nI f) z0 kc ks (nI l) oc dm hd fv ov a1 a2 a3 a4 a5 a6 a7 a8 a9 a10 a11 a12 a13 a14 := by
  refine ⟨pk_in k L hk, tv_w_pick ?_⟩
  intro t ht
  refine tv_w_feed E hf ht ?_
  intro r tk' sz' oc' dm' hd' fv' ov' a3' a4' a5' a6' a7' a8' a9' a10' a11' a12' a13' a14' a1' a2' E'
  exact br_c (fun _ => tv_96 hk hL hJ hf E') (fun _ => tv_96 hk hL hJ hf E')
theorem tv_33 {L : Nat} {xs : Nat → Int32} {kc ks : Nat} (hL : L ≤ 260) : ∀ (N k : Nat) (x2 x3 : Int32) (l : Nat) (tk sz : Nat → Nat) (oc dm hd fv ov : Int32) (a3 a4 a5 a6 a7 a8 a9 a10 a11 a12 a13 a14 a1 a2 : Nat → Int32), L - k < N → tv_Env l tk sz a1 a2 → k ≤ 261 → wL_law_33 (fun r => r = 1) L xs kc ks N x2 x3 (nI k) (nI l) oc dm hd fv ov a1 a2 a3 a4 a5 a6 a7 a8 a9 a10 a11 a12 a13 a14 := by
  intro N
  induction N with
  | zero => intro k x2 x3 l tk sz oc dm hd fv ov a3 a4 a5 a6 a7 a8 a9 a10 a11 a12 a13 a14 a1 a2 hN; exact absurd hN (by omega)
  | succ N ih =>
    intro k x2 x3 l tk sz oc dm hd fv ov a3 a4 a5 a6 a7 a8 a9 a10 a11 a12 a13 a14 a1 a2 hN E hk
    refine pk_le L k (fun _ => rfl) (fun z => ⟨pk_in k L z, ?_⟩)
    obtain ⟨f, hf, e⟩ := pk_andE (xs (nI k).toNatClampNeg >>> ((8 : Int32) &&& 31)) (m := 1) 1 (by decide)
    have hf2 : f < 2 := hf
    have hJ : tv_Nx (wL_law_33 (fun r => r = 1) L xs kc ks N) k := fun x2 x3 l tk sz oc dm hd fv ov a3 a4 a5 a6 a7 a8 a9 a10 a11 a12 a13 a14 a1 a2 E' => ih (k + 1) x2 x3 l tk sz oc dm hd fv ov a3 a4 a5 a6 a7 a8 a9 a10 a11 a12 a13 a14 a1 a2 (by omega) E' (by omega)
    exact nm_r e (br_c (fun _ => tv_61 z hL hJ hf2 E) (fun _ => tv_61 z hL hJ hf2 E))
theorem tv_22 {L : Nat} {xs : Nat → Int32} (hL : L ≤ 260) {l : Nat} {z0 : Int32} (hl : l ≤ 2) (hz : z0 = nI l) : wL_law_22 (fun r => r = 1) L xs z0 1 20 0 0 0 0 0 0 := by
  subst hz
  refine ⟨14, 232, by omega, by omega, ?_⟩
  have fin : ∃ fu33 : Nat, wL_law_33 (fun r => r = 1) L xs (1 + 14) (20 + 232) fu33 0 0 1 (nI l) 0 0 0 0 0 (fun _ => 0) (fun _ => 0) (fun _ => 0) (fun _ => 0) (fun _ => 0) (fun _ => 0) (fun _ => 0) (fun _ => 0) (fun _ => 0) (fun _ => 0) (fun _ => 0) (fun _ => 0) (fun _ => 0) (fun _ => 0) := by
    refine ⟨L + 1, ?_⟩
    exact tv_33 hL (L + 1) 1 0 0 l (fun _ => 0) (fun _ => 0) _ _ _ _ _ _ _ _ _ _ _ _ _ _ _ _ _ _ _ (by omega) ⟨hl, fun j _ => rfl, fun j _ => (by decide : 0 < 8), fun f _ => ⟨rfl, (by decide : 0 ≤ 9)⟩⟩ (by omega)
  refine ⟨by omega, by omega, by omega, by omega, by omega, by omega, by omega, by omega, by omega, by omega, by omega, by omega, by omega, by omega, by omega, by omega, by omega, by omega, by omega, by omega, by omega, by omega, by omega, by omega, by omega, by omega, by omega, by omega, ?_⟩
  exact pk_le 0 l (fun _ => pk_le l 2 (fun _ => fin) (fun z => absurd z (by omega))) (fun z => absurd z (by omega))
end
section
theorem i_vc (xs : Nat → Int32) (L : Nat) (hL : L ≤ 260) : wpL_law (fun r => r = 1) L xs := by
  refine pk_le L 0 (fun _ => tv_22 (l := 0) hL (by omega) rfl) (fun z => ⟨pk_in 0 L z, by decide, ?_⟩)
  obtain ⟨l, hl, e⟩ := tv_mod3 (xs (0 : Int32).toNatClampNeg)
  exact tv_22 hL hl e
end
