section
/-! ===== the pure picture: arrays of naturals ===== -/
def cq_a (f : Nat → Nat) : Nat → Int32 := fun i => nI (f i)
def cq_u (f : Nat → Nat) (k v : Nat) : Nat → Nat := fun j => if j = k then v else f j
theorem cq_us {f : Nat → Nat} {k v : Nat} : cq_u f k v k = v := by simp [cq_u]
theorem cq_un {f : Nat → Nat} {k v j : Nat} (h : j ≠ k) : cq_u f k v j = f j := by simp [cq_u, h]
theorem cq_upd (f : Nat → Nat) (k v : Nat) : upd (cq_a f) k (nI v) = cq_a (cq_u f k v) := by
  funext j
  show (if j = k then nI v else nI (f j)) = nI (if j = k then v else f j)
  by_cases h : j = k
  · rw [if_pos h, if_pos h]
  · rw [if_neg h, if_neg h]
theorem cq_a0 : cq_a (fun _ => 0) = fun _ => 0 := rfl
/-- the least of a rule's premises' values (b: three times the rule) -/
def cq_least (pt ng vl : Nat → Nat) (b : Nat) : Nat → Nat
  | 0 => 100
  | k + 1 => min (cq_least pt ng vl b k) (if ng (b + k) = 0 then vl (pt (b + k)) else 100 - vl (pt (b + k)))
def cq_worth (st sz pt ng vl : Nat → Nat) (r : Nat) : Nat := cq_least pt ng vl (3 * r) (sz r) * st r / 100
/-- how many of the first premises are not settled -/
def cq_uns (pt se : Nat → Nat) (b : Nat) : Nat → Nat
  | 0 => 0
  | k + 1 => cq_uns pt se b k + (if se (pt (b + k)) = 0 then 1 else 0)
/-- how many of the first premises are c -/
def cq_eqs (pt : Nat → Nat) (c b : Nat) : Nat → Nat
  | 0 => 0
  | k + 1 => cq_eqs pt c b k + (if pt (b + k) = c then 1 else 0)
theorem cq_least_le (pt ng vl : Nat → Nat) (b k : Nat) : cq_least pt ng vl b k ≤ 100 := by
  induction k with
  | zero => exact Nat.le_refl 100
  | succ k ih => exact Nat.le_trans (Nat.min_le_left _ _) ih
theorem cq_least_p {pt ng vl : Nat → Nat} {b j : Nat} : ∀ k, j < k → ng (b + j) = 0 → cq_least pt ng vl b k ≤ vl (pt (b + j)) := by
  intro k
  induction k with
  | zero => intro h; omega
  | succ k ih =>
    intro h hn
    by_cases e : j = k
    · subst e
      refine Nat.le_trans (Nat.min_le_right _ _) ?_
      rw [if_pos hn]
      exact Nat.le_refl _
    · exact Nat.le_trans (Nat.min_le_left _ _) (ih (by omega) hn)
theorem cq_least_c {pt ng vl vl' : Nat → Nat} {b : Nat} : ∀ k, (∀ j, j < k → vl (pt (b + j)) = vl' (pt (b + j))) → cq_least pt ng vl b k = cq_least pt ng vl' b k := by
  intro k
  induction k with
  | zero => intro _; rfl
  | succ k ih =>
    intro h
    show min _ _ = min _ _
    rw [ih (fun j hj => h j (by omega)), h k (by omega)]
theorem cq_worth_l {st sz pt ng vl : Nat → Nat} {r : Nat} (h : st r ≤ 100) : cq_worth st sz pt ng vl r ≤ cq_least pt ng vl (3 * r) (sz r) := by
  unfold cq_worth
  have h1 := Nat.mul_le_mul_left (cq_least pt ng vl (3 * r) (sz r)) h
  omega
theorem cq_worth_100 {st sz pt ng vl : Nat → Nat} {r : Nat} (h : st r ≤ 100) : cq_worth st sz pt ng vl r ≤ 100 := Nat.le_trans (cq_worth_l h) (cq_least_le _ _ _ _ _)
theorem cq_worth_c {st sz pt ng vl vl' : Nat → Nat} {r : Nat} (h : ∀ j, j < sz r → vl (pt (3 * r + j)) = vl' (pt (3 * r + j))) : cq_worth st sz pt ng vl r = cq_worth st sz pt ng vl' r := by
  unfold cq_worth
  rw [cq_least_c _ h]
theorem cq_uns_0 {pt se : Nat → Nat} {b j : Nat} : ∀ k, cq_uns pt se b k = 0 → j < k → se (pt (b + j)) ≠ 0 := by
  intro k
  induction k with
  | zero => intro _ h; omega
  | succ k ih =>
    intro h hj
    have h' : cq_uns pt se b k + (if se (pt (b + k)) = 0 then 1 else 0) = 0 := h
    by_cases e : j = k
    · subst e
      intro z
      rw [if_pos z] at h'
      omega
    · exact ih (by omega) (by omega)
theorem cq_uns_c {pt se : Nat → Nat} {b c : Nat} (hc : se c = 0) : ∀ k, cq_uns pt se b k = cq_uns pt (cq_u se c 1) b k + cq_eqs pt c b k := by
  intro k
  induction k with
  | zero => rfl
  | succ k ih =>
    show cq_uns pt se b k + (if se (pt (b + k)) = 0 then 1 else 0) = cq_uns pt (cq_u se c 1) b k + (if cq_u se c 1 (pt (b + k)) = 0 then 1 else 0) + (cq_eqs pt c b k + (if pt (b + k) = c then 1 else 0))
    by_cases e : pt (b + k) = c
    · rw [e, cq_us, if_pos hc, if_pos rfl, if_neg (by decide)]
      omega
    · rw [cq_un e, if_neg e]
      omega
theorem cq_uns_all {pt se : Nat → Nat} {b : Nat} : ∀ k, (∀ j, j < k → se (pt (b + j)) = 0) → cq_uns pt se b k = k := by
  intro k
  induction k with
  | zero => intro _; rfl
  | succ k ih =>
    intro h
    show cq_uns pt se b k + (if se (pt (b + k)) = 0 then 1 else 0) = k + 1
    rw [ih (fun j hj => h j (by omega)), if_pos (h k (by omega))]
theorem cq_uns_le (pt se : Nat → Nat) (b : Nat) : ∀ k, cq_uns pt se b k ≤ k := by
  intro k
  induction k with
  | zero => exact Nat.le_refl 0
  | succ k ih =>
    show cq_uns pt se b k + (if se (pt (b + k)) = 0 then 1 else 0) ≤ k + 1
    split <;> omega
theorem cq_eqs_m {pt : Nat → Nat} {c b j : Nat} : ∀ k, j ≤ k → cq_eqs pt c b j ≤ cq_eqs pt c b k := by
  intro k
  induction k with
  | zero => intro h; rw [show j = 0 by omega]; exact Nat.le_refl _
  | succ k ih =>
    intro h
    by_cases e : j = k + 1
    · rw [e]; exact Nat.le_refl _
    · exact Nat.le_trans (ih (by omega)) (Nat.le_add_right _ _)
theorem cq_eqs_p {pt : Nat → Nat} {c b : Nat} : ∀ k, 0 < cq_eqs pt c b k → ∃ j, j < k ∧ pt (b + j) = c := by
  intro k
  induction k with
  | zero => intro h; exact absurd h (Nat.lt_irrefl 0)
  | succ k ih =>
    intro h
    have h' : 0 < cq_eqs pt c b k + (if pt (b + k) = c then 1 else 0) := h
    by_cases e : pt (b + k) = c
    · exact ⟨k, by omega, e⟩
    · rw [if_neg e] at h'
      obtain ⟨j, h1, h2⟩ := ih (by omega)
      exact ⟨j, by omega, h2⟩
/-! ===== the invariants of the settling ===== -/
/-- rule r is well formed -/
def cq_R (hd st sz pt ng : Nat → Nat) (r : Nat) : Prop :=
  hd r < 16 ∧ 1 ≤ st r ∧ st r ≤ 100 ∧ sz r ≤ 3 ∧ ∀ k, k < sz r → pt (3 * r + k) < 16 ∧ pt (3 * r + k) / 4 ≤ hd r / 4 ∧ (ng (3 * r + k) ≠ 0 → pt (3 * r + k) / 4 < hd r / 4)
def cq_WF (cnt : Nat) (hd st sz pt ng : Nat → Nat) : Prop := cnt ≤ 20 ∧ ∀ r, r < cnt → cq_R hd st sz pt ng r
/-- what always holds while settling -/
def cq_B (cnt : Nat) (hd st sz pt ng sn vl og se : Nat → Nat) : Prop :=
  (∀ c, c < 16 → se c ≤ 1 ∧ vl c ≤ 100 ∧ sn c ≤ og c ∧ og c ≤ 100 ∧ (se c ≠ 0 → vl c = og c)) ∧
  (∀ c, c < 16 → sn c < og c → ∃ r, r < cnt ∧ hd r = c ∧ cq_uns pt se (3 * r) (sz r) = 0 ∧ cq_worth st sz pt ng vl r = og c) ∧
  (∀ c d, c < 16 → d < 16 → c / 4 = d / 4 → se c ≠ 0 → se d = 0 → og d ≤ og c)
/-- how many of each level are settled when t claims are -/
def cq_L (se : Nat → Nat) (t : Nat) : Prop := ∀ j, j < 4 → se (4 * j) + se (4 * j + 1) + se (4 * j + 2) + se (4 * j + 3) = min 4 (t - 4 * j)
/-- rule r waits for what isn't settled; when it waits for none its head's offer is as great -/
def cq_D (hd st sz pt ng vl og se wt : Nat → Nat) (r : Nat) : Prop :=
  wt r = cq_uns pt se (3 * r) (sz r) ∧ (wt r = 0 → cq_worth st sz pt ng vl r ≤ og (hd r))
def cq_T (cnt : Nat) (hd st sz pt ng sn vl og se wt : Nat → Nat) (t : Nat) : Prop :=
  cq_B cnt hd st sz pt ng sn vl og se ∧ cq_L se t ∧ ∀ r, r < cnt → cq_D hd st sz pt ng vl og se wt r
/-- the loop over the rules when c is settled (so: what was settled before) -/
def cq_N (cnt : Nat) (hd st sz pt ng sn vl og so wt : Nat → Nat) (t c i : Nat) : Prop :=
  cq_B cnt hd st sz pt ng sn vl og (cq_u so c 1) ∧ so c = 0 ∧ c < 16 ∧ c / 4 = t / 4 ∧ cq_L (cq_u so c 1) (t + 1) ∧
  (∀ d, d < 16 → d / 4 = c / 4 → cq_u so c 1 d ≠ 0 → og c ≤ og d) ∧
  (∀ r, r < i → cq_D hd st sz pt ng vl og (cq_u so c 1) wt r) ∧
  (∀ r, i ≤ r → r < cnt → cq_D hd st sz pt ng vl og so wt r)
/-- the first loop over the rules -/
def cq_M (cnt : Nat) (hd st sz pt ng sn vl og se wt : Nat → Nat) (i : Nat) : Prop :=
  (∀ c, c < 16 → se c = 0) ∧ cq_B cnt hd st sz pt ng sn vl og se ∧ ∀ r, r < i → cq_D hd st sz pt ng vl og se wt r
/-- what is asked for in the end -/
def cq_FIN (cnt : Nat) (hd st sz pt ng sn vl : Nat → Nat) : Prop :=
  (∀ c, c < 16 → sn c ≤ vl c ∧ vl c ≤ 100 ∧ (sn c < vl c → ∃ r, r < cnt ∧ hd r = c ∧ cq_worth st sz pt ng vl r = vl c)) ∧
  (∀ r, r < cnt → cq_worth st sz pt ng vl r ≤ vl (hd r))
/-- an offer made -/
def cq_mo (hd st sz pt ng vl se : Nat → Nat) (r : Nat) (og : Nat → Nat) : Nat → Nat :=
  fun c => if c = hd r ∧ se c = 0 then max (og c) (cq_worth st sz pt ng vl r) else og c
section PURE
variable {cnt : Nat} {hd st sz pt ng sn vl og se so wt : Nat → Nat} {r : Nat}
theorem cq_mo_le (c : Nat) : og c ≤ cq_mo hd st sz pt ng vl se r og c := by
  unfold cq_mo
  split <;> omega
theorem cq_mo_s {c : Nat} (h : se c ≠ 0) : cq_mo hd st sz pt ng vl se r og c = og c := by
  unfold cq_mo
  rw [if_neg (fun z => h z.2)]
theorem cq_mo_n {c : Nat} (h : c ≠ hd r) : cq_mo hd st sz pt ng vl se r og c = og c := by
  unfold cq_mo
  rw [if_neg (fun z => h z.1)]
theorem cq_mo_y {c : Nat} (h : c = hd r) (h2 : se c = 0) : cq_mo hd st sz pt ng vl se r og c = max (og c) (cq_worth st sz pt ng vl r) := by
  unfold cq_mo
  rw [if_pos ⟨h, h2⟩]
theorem cq_mo_h (h : se (hd r) ≠ 0 → cq_worth st sz pt ng vl r ≤ og (hd r)) : cq_worth st sz pt ng vl r ≤ cq_mo hd st sz pt ng vl se r og (hd r) := by
  by_cases e : se (hd r) = 0
  · rw [cq_mo_y rfl e]
    omega
  · rw [cq_mo_s e]
    exact h e
theorem cq_mo_B (hr : r < cnt) (hst : st r ≤ 100) (h0 : cq_uns pt se (3 * r) (sz r) = 0) (B : cq_B cnt hd st sz pt ng sn vl og se)
    (hk : ∀ d, d < 16 → d / 4 = hd r / 4 → se d ≠ 0 → cq_worth st sz pt ng vl r ≤ og d) :
    cq_B cnt hd st sz pt ng sn vl (cq_mo hd st sz pt ng vl se r og) se := by
  obtain ⟨B1, B2, B3⟩ := B
  refine ⟨fun c hc => ?_, fun c hc hs => ?_, fun c d hc hd' e h1 h2 => ?_⟩
  · obtain ⟨b1, b2, b3, b4, b5⟩ := B1 c hc
    have hw : cq_worth st sz pt ng vl r ≤ 100 := cq_worth_100 hst
    have hm : og c ≤ cq_mo hd st sz pt ng vl se r og c := cq_mo_le c
    refine ⟨b1, b2, by omega, ?_, fun z => by rw [cq_mo_s z]; exact b5 z⟩
    by_cases e : c = hd r
    · by_cases e2 : se c = 0
      · rw [cq_mo_y e e2]; omega
      · rw [cq_mo_s e2]; exact b4
    · rw [cq_mo_n e]; exact b4
  · by_cases e : c = hd r
    · by_cases e2 : se c = 0
      · rw [cq_mo_y e e2] at hs ⊢
        by_cases hw : og c < cq_worth st sz pt ng vl r
        · exact ⟨r, hr, e.symm, h0, by omega⟩
        · obtain ⟨q, q1, q2, q3, q4⟩ := B2 c hc (by omega)
          exact ⟨q, q1, q2, q3, by omega⟩
      · rw [cq_mo_s e2] at hs ⊢
        exact B2 c hc hs
    · rw [cq_mo_n e] at hs ⊢
      exact B2 c hc hs
  · rw [cq_mo_s h1]
    have h3 := B3 c d hc hd' e h1 h2
    by_cases f : d = hd r
    · rw [cq_mo_y f h2]
      have h4 := hk c hc (by rw [e, f]) h1
      omega
    · rw [cq_mo_n f]
      exact h3
/-- levels: the unsettled lie at or above c's level, the settled at or below it -/
theorem cq_L_lo {t h : Nat} (hL : cq_L se (t + 1)) (hb : ∀ c, c < 16 → se c ≤ 1) (hh : h < 16) (h0 : se h = 0) : t / 4 ≤ h / 4 := by
  have hj := hL (h / 4) (by omega)
  have b0 := hb (4 * (h / 4)) (by omega)
  have b1 := hb (4 * (h / 4) + 1) (by omega)
  have b2 := hb (4 * (h / 4) + 2) (by omega)
  have b3 := hb (4 * (h / 4) + 3) (by omega)
  rcases (show h = 4 * (h / 4) ∨ h = 4 * (h / 4) + 1 ∨ h = 4 * (h / 4) + 2 ∨ h = 4 * (h / 4) + 3 by omega) with e | e | e | e <;> rw [e] at h0 <;> omega
theorem cq_L_hi {t h : Nat} (hL : cq_L se (t + 1)) (hh : h < 16) (h0 : se h ≠ 0) : h / 4 ≤ t / 4 := by
  have hj := hL (h / 4) (by omega)
  rcases (show h = 4 * (h / 4) ∨ h = 4 * (h / 4) + 1 ∨ h = 4 * (h / 4) + 2 ∨ h = 4 * (h / 4) + 3 by omega) with e | e | e | e <;> rw [e] at h0 <;> omega
theorem cq_L_ex {t : Nat} (hL : cq_L se t) (ht : t < 16) : ∃ d, 4 * (t / 4) ≤ d ∧ d < 4 * (t / 4) + 4 ∧ se d = 0 := by
  have hj := hL (t / 4) (by omega)
  by_cases e0 : se (4 * (t / 4)) = 0
  · exact ⟨_, by omega, by omega, e0⟩
  by_cases e1 : se (4 * (t / 4) + 1) = 0
  · exact ⟨_, by omega, by omega, e1⟩
  by_cases e2 : se (4 * (t / 4) + 2) = 0
  · exact ⟨_, by omega, by omega, e2⟩
  by_cases e3 : se (4 * (t / 4) + 3) = 0
  · exact ⟨_, by omega, by omega, e3⟩
  omega
theorem cq_L_all (hL : cq_L se 16) (hb : ∀ c, c < 16 → se c ≤ 1) {h : Nat} (hh : h < 16) : se h ≠ 0 := by
  intro h0
  have hj := hL (h / 4) (by omega)
  have b0 := hb (4 * (h / 4)) (by omega)
  have b1 := hb (4 * (h / 4) + 1) (by omega)
  have b2 := hb (4 * (h / 4) + 2) (by omega)
  have b3 := hb (4 * (h / 4) + 3) (by omega)
  rcases (show h = 4 * (h / 4) ∨ h = 4 * (h / 4) + 1 ∨ h = 4 * (h / 4) + 2 ∨ h = 4 * (h / 4) + 3 by omega) with e | e | e | e <;> rw [e] at h0 <;> omega
theorem cq_L_s {t c : Nat} (hL : cq_L se t) (hc : se c = 0) (hc4 : c / 4 = t / 4) : cq_L (cq_u se c 1) (t + 1) := by
  intro j hj
  have h := hL j hj
  by_cases e : j = t / 4
  · rcases (show c = 4 * j ∨ c = 4 * j + 1 ∨ c = 4 * j + 2 ∨ c = 4 * j + 3 by omega) with f | f | f | f
    · rw [f] at hc
      rw [f, cq_us, cq_un (by omega), cq_un (by omega), cq_un (by omega)]
      omega
    · rw [f] at hc
      rw [f, cq_us, cq_un (by omega), cq_un (by omega), cq_un (by omega)]
      omega
    · rw [f] at hc
      rw [f, cq_us, cq_un (by omega), cq_un (by omega), cq_un (by omega)]
      omega
    · rw [f] at hc
      rw [f, cq_us, cq_un (by omega), cq_un (by omega), cq_un (by omega)]
      omega
  · rw [cq_un (by omega), cq_un (by omega), cq_un (by omega), cq_un (by omega)]
    omega
end PURE
end
section
/-! ===== the pure steps of the settling ===== -/
section STEPS
variable {cnt : Nat} {hd st sz pt ng sn vl og se so wt : Nat → Nat}
/-- the best unsettled claim c of the level is settled now -/
theorem cq_pick {t c : Nat} (T : cq_T cnt hd st sz pt ng sn vl og so wt t) (hc : c < 16) (h0 : so c = 0) (hc4 : c / 4 = t / 4)
    (hb : ∀ d, d < 16 → d / 4 = c / 4 → so d = 0 → og d ≤ og c) : cq_N cnt hd st sz pt ng sn (cq_u vl c (og c)) og so wt t c 0 := by
  obtain ⟨⟨B1, B2, B3⟩, hL, hD⟩ := T
  have hw : ∀ r, cq_uns pt so (3 * r) (sz r) = 0 → cq_worth st sz pt ng (cq_u vl c (og c)) r = cq_worth st sz pt ng vl r := by
    intro r hr
    refine cq_worth_c (fun j hj => cq_un (fun z => ?_))
    exact cq_uns_0 _ hr hj (by rw [z]; exact h0)
  have hu : ∀ r, cq_uns pt so (3 * r) (sz r) = 0 → cq_uns pt (cq_u so c 1) (3 * r) (sz r) = 0 := by
    intro r hr
    have := cq_uns_c (pt := pt) (b := 3 * r) h0 (sz r)
    omega
  refine ⟨⟨fun d hd' => ?_, fun d hd' hs => ?_, fun a d ha hd' e h1 h2 => ?_⟩, h0, hc, hc4, cq_L_s hL h0 hc4, fun d hd' e h1 => ?_, fun r hr => absurd hr (by omega), fun r _ hr => ?_⟩
  · obtain ⟨b1, b2, b3, b4, b5⟩ := B1 d hd'
    by_cases e : d = c
    · subst e
      rw [cq_us, cq_us]
      exact ⟨by omega, b4, b3, b4, fun _ => rfl⟩
    · rw [cq_un e, cq_un e]
      exact ⟨b1, b2, b3, b4, b5⟩
  · obtain ⟨r, r1, r2, r3, r4⟩ := B2 d hd' hs
    exact ⟨r, r1, r2, hu r r3, by rw [hw r r3]; exact r4⟩
  · have hdc : d ≠ c := by
      intro z
      rw [z, cq_us] at h2
      omega
    rw [cq_un hdc] at h2
    by_cases f : a = c
    · rw [f]
      exact hb d hd' (by rw [← e, f]) h2
    · rw [cq_un f] at h1
      exact B3 a d ha hd' e h1 h2
  · by_cases f : d = c
    · rw [f]
      exact Nat.le_refl _
    · rw [cq_un f] at h1
      exact B3 d c hd' hc e h1 h0
  · obtain ⟨d1, d2⟩ := hD r hr
    refine ⟨d1, fun z => ?_⟩
    rw [hw r (by omega)]
    exact d2 z
/-- one rule has taken notice of c -/
theorem cq_N_s {t c i : Nat} {og' wt' : Nat → Nat} (W : cq_WF cnt hd st sz pt ng) (N : cq_N cnt hd st sz pt ng sn vl og so wt t c i) (hi : i < cnt)
    (hw : ∀ j, j ≠ i → wt' j = wt j) (hwi : wt' i + cq_eqs pt c (3 * i) (sz i) = wt i)
    (ho : (og' = og ∧ (wt i = 0 ∨ wt' i ≠ 0)) ∨ (0 < wt i ∧ wt' i = 0 ∧ og' = cq_mo hd st sz pt ng vl (cq_u so c 1) i og)) :
    cq_N cnt hd st sz pt ng sn vl og' so wt' t c (i + 1) := by
  obtain ⟨B, h0, hc, hc4, hL, hm, hD1, hD2⟩ := N
  obtain ⟨w1, w2⟩ := hD2 i (Nat.le_refl i) hi
  have hu := cq_uns_c (pt := pt) (b := 3 * i) h0 (sz i)
  have hui : wt' i = cq_uns pt (cq_u so c 1) (3 * i) (sz i) := by omega
  rcases ho with ⟨rfl, hz⟩ | ⟨hp, hz, rfl⟩
  · refine ⟨B, h0, hc, hc4, hL, hm, fun r hr => ?_, fun r hr hr' => ?_⟩
    · by_cases e : r = i
      · subst e
        exact ⟨hui, fun z => w2 (by omega)⟩
      · obtain ⟨d1, d2⟩ := hD1 r (by omega)
        exact ⟨by rw [hw r e]; exact d1, fun z => d2 (by rw [← hw r e]; exact z)⟩
    · obtain ⟨d1, d2⟩ := hD2 r (by omega) hr'
      have e : r ≠ i := by omega
      exact ⟨by rw [hw r e]; exact d1, fun z => d2 (by rw [← hw r e]; exact z)⟩
  · obtain ⟨r1, r2, r3, r4, r5⟩ := W.2 i hi
    obtain ⟨k, hk, hkc⟩ := cq_eqs_p (pt := pt) (c := c) (b := 3 * i) (sz i) (by omega)
    have hb : ∀ d, d < 16 → cq_u so c 1 d ≤ 1 := fun d hd' => (B.1 d hd').1
    have key : ∀ d, d < 16 → d / 4 = hd i / 4 → cq_u so c 1 d ≠ 0 → cq_worth st sz pt ng vl i ≤ og d := by
      intro d hd' e h1
      have l1 : d / 4 ≤ t / 4 := cq_L_hi hL hd' h1
      obtain ⟨p1, p2, p3⟩ := r5 k hk
      rw [hkc] at p2 p3
      have hn : ng (3 * i + k) = 0 := by
        by_cases z : ng (3 * i + k) = 0
        · exact z
        · have := p3 z
          omega
      have q1 : cq_worth st sz pt ng vl i ≤ vl c := by
        have q2 := cq_least_p (pt := pt) (ng := ng) (vl := vl) (b := 3 * i) (sz i) hk hn
        rw [hkc] at q2
        exact Nat.le_trans (cq_worth_l r3) q2
      have q3 : vl c = og c := (B.1 c hc).2.2.2.2 (by rw [cq_us]; decide)
      have q4 := hm d hd' (by omega) h1
      omega
    have sc : cq_u so c 1 c ≠ 0 := by rw [cq_us]; decide
    refine ⟨cq_mo_B hi r3 (by omega) B key, h0, hc, hc4, hL, fun d hd' e h1 => ?_, fun r hr => ?_, fun r hr hr' => ?_⟩
    · rw [cq_mo_s sc]
      exact Nat.le_trans (hm d hd' e h1) (cq_mo_le d)
    · by_cases e : r = i
      · subst e
        exact ⟨hui, fun _ => cq_mo_h (fun z => key _ r1 rfl z)⟩
      · obtain ⟨d1, d2⟩ := hD1 r (by omega)
        exact ⟨by rw [hw r e]; exact d1, fun z => Nat.le_trans (d2 (by rw [← hw r e]; exact z)) (cq_mo_le _)⟩
    · obtain ⟨d1, d2⟩ := hD2 r (by omega) hr'
      have e : r ≠ i := by omega
      exact ⟨by rw [hw r e]; exact d1, fun z => Nat.le_trans (d2 (by rw [← hw r e]; exact z)) (cq_mo_le _)⟩
theorem cq_N_T {t c i : Nat} (hi : cnt ≤ i) (N : cq_N cnt hd st sz pt ng sn vl og so wt t c i) : cq_T cnt hd st sz pt ng sn vl og (cq_u so c 1) wt (t + 1) := by
  obtain ⟨B, h0, hc, hc4, hL, hm, hD1, hD2⟩ := N
  exact ⟨B, hL, fun r hr => hD1 r (by omega)⟩
/-- the first loop over the rules: one rule -/
theorem cq_M_s {i : Nat} (W : cq_WF cnt hd st sz pt ng) (M : cq_M cnt hd st sz pt ng sn vl og se wt i) (hi : i < cnt) (hz : sz i ≠ 0) :
    cq_M cnt hd st sz pt ng sn vl og se (cq_u wt i (sz i)) (i + 1) := by
  obtain ⟨hs, B, hD⟩ := M
  obtain ⟨r1, r2, r3, r4, r5⟩ := W.2 i hi
  refine ⟨hs, B, fun r hr => ?_⟩
  by_cases e : r = i
  · subst e
    refine ⟨?_, fun z => absurd z (by rw [cq_us]; exact hz)⟩
    rw [cq_us, cq_uns_all _ (fun j hj => hs _ (r5 j hj).1)]
  · obtain ⟨d1, d2⟩ := hD r (by omega)
    unfold cq_D
    rw [cq_un e]
    exact ⟨d1, d2⟩
theorem cq_M_0 {i : Nat} (W : cq_WF cnt hd st sz pt ng) (M : cq_M cnt hd st sz pt ng sn vl og se wt i) (hi : i < cnt) (hz : sz i = 0) :
    cq_M cnt hd st sz pt ng sn vl (cq_mo hd st sz pt ng vl se i og) se (cq_u wt i (sz i)) (i + 1) := by
  obtain ⟨hs, B, hD⟩ := M
  obtain ⟨r1, r2, r3, r4, r5⟩ := W.2 i hi
  have h0 : cq_uns pt se (3 * i) (sz i) = 0 := by rw [hz]; rfl
  refine ⟨hs, cq_mo_B hi r3 h0 B (fun d hd' _ z => absurd (hs d hd') z), fun r hr => ?_⟩
  by_cases e : r = i
  · subst e
    refine ⟨by rw [cq_us, h0]; exact hz, fun _ => cq_mo_h (fun z => absurd (hs _ r1) z)⟩
  · obtain ⟨d1, d2⟩ := hD r (by omega)
    unfold cq_D
    rw [cq_un e]
    exact ⟨d1, fun z => Nat.le_trans (d2 z) (cq_mo_le _)⟩
theorem cq_M_b (hs : ∀ c, c < 16 → se c = 0) (hv : ∀ c, c < 16 → vl c = 0) (ho : ∀ c, c < 16 → og c = sn c) (hn : ∀ c, c < 16 → sn c ≤ 100) :
    cq_M cnt hd st sz pt ng sn vl og se wt 0 := by
  refine ⟨hs, ⟨fun c hc => ?_, fun c hc z => ?_, fun c d hc _ _ z => absurd (hs c hc) z⟩, fun r hr => absurd hr (by omega)⟩
  · have h1 := hs c hc
    have h2 := hv c hc
    have h3 := ho c hc
    have h4 := hn c hc
    exact ⟨by omega, by omega, by omega, by omega, fun z => absurd h1 z⟩
  · have h3 := ho c hc
    omega
theorem cq_M_T {i : Nat} (hi : cnt ≤ i) (M : cq_M cnt hd st sz pt ng sn vl og se wt i) : cq_T cnt hd st sz pt ng sn vl og se wt 0 := by
  obtain ⟨hs, B, hD⟩ := M
  refine ⟨B, fun j hj => ?_, fun r hr => hD r (by omega)⟩
  rw [hs _ (by omega), hs _ (by omega), hs _ (by omega), hs _ (by omega)]
  omega
/-- all are settled -/
theorem cq_T_FIN (W : cq_WF cnt hd st sz pt ng) (T : cq_T cnt hd st sz pt ng sn vl og se wt 16) : cq_FIN cnt hd st sz pt ng sn vl := by
  obtain ⟨⟨B1, B2, B3⟩, hL, hD⟩ := T
  have hall : ∀ c, c < 16 → se c ≠ 0 := fun c hc => cq_L_all hL (fun d hd' => (B1 d hd').1) hc
  have hv : ∀ c, c < 16 → vl c = og c := fun c hc => (B1 c hc).2.2.2.2 (hall c hc)
  refine ⟨fun c hc => ?_, fun r hr => ?_⟩
  · obtain ⟨b1, b2, b3, b4, b5⟩ := B1 c hc
    have e := hv c hc
    refine ⟨by omega, b2, fun z => ?_⟩
    obtain ⟨r, r1, r2, r3, r4⟩ := B2 c hc (by omega)
    exact ⟨r, r1, r2, by omega⟩
  · obtain ⟨d1, d2⟩ := hD r hr
    obtain ⟨r1, r2, r3, r4, r5⟩ := W.2 r hr
    rw [hv _ r1]
    refine d2 ?_
    have h0 : ∀ k, k ≤ sz r → cq_uns pt se (3 * r) k = 0 := by
      intro k
      induction k with
      | zero => intro _; rfl
      | succ k ih =>
        intro hk
        show cq_uns pt se (3 * r) k + (if se (pt (3 * r + k)) = 0 then 1 else 0) = 0
        rw [ih (by omega), if_neg (hall _ (r5 k (by omega)).1)]
    rw [d1, h0 _ (Nat.le_refl _)]
end STEPS
end
section
/-! ===== the walks of the small methods ===== -/
abbrev cq_S (ds cnt cu : Nat) (hd st sz pt ng dp dn sn vl og se wt : Nat → Nat) (K : Nat → Int32) : St1 :=
  (nI ds, nI cnt, -1, nI cu, cq_a hd, cq_a st, cq_a sz, cq_a pt, cq_a ng, cq_a dp, cq_a dn, cq_a sn, cq_a vl, cq_a og, cq_a se, cq_a wt, K)
theorem cq_ix (r k : Nat) : (3 : Int32) * nI r + nI k = nI (3 * r + k) := by
  rw [show (3 : Int32) = nI 3 from rfl, pk_mul, nI_add]
theorem cq_c (f : Nat → Nat) (i : Nat) : cq_a f i = nI (f i) := rfl
theorem cq_nm1 {n : Nat} (h : n < 2 ^ 31) : ¬ nI n = -1 := fun z => absurd (show nI n < 0 by rw [z]; decide) (nI_pos h)
theorem cq_nb {b : Nat} (h : b ≤ 1) : vp_nar .boolean (nI b) = nI b := by
  rcases (show b = 0 ∨ b = 1 by omega) with e | e <;> subst e <;> decide
section WALKS
variable {ds cnt cu : Nat} {hd st sz pt ng dp dn sn vl og se wt : Nat → Nat} {K : Nat → Int32} {r : Nat}
theorem cq_worth5 {post : Int32 → Prop} (hr : r < 20) (hsz : sz r ≤ 3) (hpt : ∀ k, k < sz r → pt (3 * r + k) < 16) (hng : ∀ i, ng i ≤ 1) (hvl : ∀ c, c < 16 → vl c ≤ 100) (hst : st r ≤ 100)
    (H : post (nI (cq_worth st sz pt ng vl r))) :
    ∀ f k, k ≤ sz r → sz r - k < f → wX_worth_5 post (nI r) (nI ds) (nI cnt) (-1) (nI cu) (cq_a hd) (cq_a st) (cq_a sz) (cq_a pt) (cq_a ng) (cq_a dp) (cq_a dn) (cq_a sn) (cq_a vl) (cq_a og) (cq_a se) (cq_a wt) K f (nI (cq_least pt ng vl (3 * r) k)) (nI k) := by
  intro f
  induction f with
  | zero => intro k _ z; omega
  | succ f ih =>
    intro k hk hf
    have hl := cq_least_le pt ng vl (3 * r) k
    have e3 : (3 : Int32) * nI r + nI k = nI (3 * r + k) := cq_ix r k
    refine ⟨pk_in r 20 hr, ?_⟩
    rw [nI_clamp (show r < 2 ^ 31 by omega), e3, nI_clamp (show 3 * r + k < 2 ^ 31 by omega)]
    refine pk_le (sz r) k (fun z => ⟨pk_in r 20 hr, by decide, ?_⟩) (fun z => ?_)
    · have ek : k = sz r := by omega
      have hm := Nat.mul_le_mul hl hst
      have e : nI (cq_least pt ng vl (3 * r) k) * cq_a st r / 100 = nI (cq_worth st sz pt ng vl r) := by
        show nI (cq_least pt ng vl (3 * r) k) * nI (st r) / nI 100 = _
        rw [pk_mul, pk_div (by omega) (by decide) (by decide), ek]
        rfl
      rw [e]
      exact H
    · have hp := hpt k z
      have hv := hvl _ hp
      have hn := hng (3 * r + k)
      have t := ih (k + 1) (by omega) (by omega)
      refine ⟨pk_in (3 * r + k) 60 (by omega), pk_in (pt (3 * r + k)) 16 hp, nm_r (e' := nI (vl (pt (3 * r + k)))) (by rw [cq_c pt, nI_clamp (by omega)]; rfl) ⟨pk_in (3 * r + k) 60 (by omega), ?_⟩⟩
      refine pk_eq (ng (3 * r + k)) 0 (fun z0 => ?_) (fun z0 => ?_)
      · have e : cq_least pt ng vl (3 * r) (k + 1) = min (cq_least pt ng vl (3 * r) k) (vl (pt (3 * r + k))) := by
          show min _ _ = _
          rw [if_pos z0]
        rw [e] at t
        refine pk_le (cq_least pt ng vl (3 * r) k) (vl (pt (3 * r + k))) (fun z1 => nm_r (nI_1 k) ?_) (fun z1 => nm_r (nI_1 k) ?_)
        · rw [Nat.min_eq_left z1] at t
          exact t
        · rw [Nat.min_eq_right (by omega)] at t
          exact t
      · have e : cq_least pt ng vl (3 * r) (k + 1) = min (cq_least pt ng vl (3 * r) k) (100 - vl (pt (3 * r + k))) := by
          show min _ _ = _
          rw [if_neg z0]
        rw [e] at t
        have e1 : (100 : Int32) - nI (vl (pt (3 * r + k))) = nI (100 - vl (pt (3 * r + k))) := pk_sub (a := 100) hv
        rw [e1]
        refine pk_le (cq_least pt ng vl (3 * r) k) (100 - vl (pt (3 * r + k))) (fun z1 => nm_r (nI_1 k) ?_) (fun z1 => nm_r (nI_1 k) ?_)
        · rw [Nat.min_eq_left z1] at t
          exact t
        · rw [Nat.min_eq_right (by omega)] at t
          exact t
theorem cq_worthW {post : Int32 → Prop} (hr : r < 20) (hR : cq_R hd st sz pt ng r) (hng : ∀ i, ng i ≤ 1) (hvl : ∀ c, c < 16 → vl c ≤ 100)
    (H : post (nI (cq_worth st sz pt ng vl r))) : wpX_worth post (cq_S ds cnt cu hd st sz pt ng dp dn sn vl og se wt K) (nI r) :=
  ⟨sz r + 1, cq_worth5 hr hR.2.2.2.1 (fun k hk => (hR.2.2.2.2 k hk).1) hng hvl hR.2.2.1 H (sz r + 1) 0 (by omega) (by omega)⟩
theorem cq_best4 {post : Int32 → Prop} {l : Nat} (hl : l < 4) (hse : ∀ c, c < 16 → se c ≤ 1) (hog : ∀ c, c < 16 → og c ≤ 100) (hx : ∃ d, 4 * l ≤ d ∧ d < 4 * l + 4 ∧ se d = 0)
    (H : ∀ c, 4 * l ≤ c → c < 4 * l + 4 → se c = 0 → (∀ d, 4 * l ≤ d → d < 4 * l + 4 → se d = 0 → og d ≤ og c) → post (nI c)) :
    ∀ f i x, 4 * l ≤ i → i ≤ 4 * l + 4 → 4 * l + 4 - i < f →
      ((x = -1 ∧ ∀ d, 4 * l ≤ d → d < i → se d ≠ 0) ∨ (∃ c, x = nI c ∧ 4 * l ≤ c ∧ c < i ∧ se c = 0 ∧ ∀ d, 4 * l ≤ d → d < i → se d = 0 → og d ≤ og c)) →
      wX_best_4 post (nI (4 * l)) (nI ds) (nI cnt) (-1) (nI cu) (cq_a hd) (cq_a st) (cq_a sz) (cq_a pt) (cq_a ng) (cq_a dp) (cq_a dn) (cq_a sn) (cq_a vl) (cq_a og) (cq_a se) (cq_a wt) K f x (nI i) := by
  intro f
  induction f with
  | zero => intro i x _ _ z; omega
  | succ f ih =>
    intro i x h1 h2 hf hI
    refine pk_le (4 * l + 4) i (fun z => ?_) (fun z => ⟨pk_in i 16 (by omega), ?_⟩) (nI_add (4 * l) 4)
    · have ei : i = 4 * l + 4 := by omega
      subst ei
      rcases hI with ⟨rfl, h3⟩ | ⟨c, rfl, c1, c2, c3, c4⟩
      · obtain ⟨d, d1, d2, d3⟩ := hx
        exact absurd d3 (h3 d d1 d2)
      · exact br_f (cq_nm1 (by omega)) (H c c1 c2 c3 c4)
    · rw [nI_clamp (show i < 2 ^ 31 by omega)]
      have b1 := hse i (by omega)
      have b2 := hog i (by omega)
      refine pk_eq (se i) 0 (fun z0 => ?_) (fun z0 => nm_r (nI_1 i) (ih (i + 1) x (by omega) (by omega) (by omega) ?_))
      · rcases hI with ⟨rfl, h3⟩ | ⟨c, rfl, c1, c2, c3, c4⟩
        · refine br_t rfl (nm_r (nI_1 i) (ih (i + 1) (nI i) (by omega) (by omega) (by omega) (Or.inr ⟨i, rfl, h1, by omega, z0, fun d d1 d2 d3 => ?_⟩)))
          by_cases e : d = i
          · rw [e]; exact Nat.le_refl _
          · exact absurd d3 (h3 d d1 (by omega))
        · have b3 := hog c (by omega)
          refine br_f (cq_nm1 (by omega)) ⟨pk_in i 16 (by omega), pk_in c 16 (by omega), ?_⟩
          rw [nI_clamp (show c < 2 ^ 31 by omega)]
          refine pk_le (og i) (og c) (fun z1 => nm_r (nI_1 i) (ih (i + 1) (nI c) (by omega) (by omega) (by omega) (Or.inr ⟨c, rfl, c1, by omega, c3, fun d d1 d2 d3 => ?_⟩)))
            (fun z1 => nm_r (nI_1 i) (ih (i + 1) (nI i) (by omega) (by omega) (by omega) (Or.inr ⟨i, rfl, h1, by omega, z0, fun d d1 d2 d3 => ?_⟩)))
          · by_cases e : d = i
            · rw [e]; exact z1
            · exact c4 d d1 (by omega) d3
          · by_cases e : d = i
            · rw [e]; exact Nat.le_refl _
            · have := c4 d d1 (by omega) d3
              omega
      · rcases hI with ⟨rfl, h3⟩ | ⟨c, rfl, c1, c2, c3, c4⟩
        · refine Or.inl ⟨rfl, fun d d1 d2 => ?_⟩
          by_cases e : d = i
          · rw [e]; exact z0
          · exact h3 d d1 (by omega)
        · refine Or.inr ⟨c, rfl, c1, by omega, c3, fun d d1 d2 d3 => ?_⟩
          by_cases e : d = i
          · rw [e] at d3; exact absurd d3 z0
          · exact c4 d d1 (by omega) d3
theorem cq_bestW {post : Int32 → Prop} {l : Nat} (hl : l < 4) (hse : ∀ c, c < 16 → se c ≤ 1) (hog : ∀ c, c < 16 → og c ≤ 100) (hx : ∃ d, 4 * l ≤ d ∧ d < 4 * l + 4 ∧ se d = 0)
    (H : ∀ c, 4 * l ≤ c → c < 4 * l + 4 → se c = 0 → (∀ d, 4 * l ≤ d → d < 4 * l + 4 → se d = 0 → og d ≤ og c) → post (nI c)) : wpX_best post (cq_S ds cnt cu hd st sz pt ng dp dn sn vl og se wt K) (nI (4 * l)) :=
  ⟨5, cq_best4 hl hse hog hx H 5 (4 * l) (-1) (by omega) (by omega) (by omega) (Or.inl ⟨rfl, fun d d1 d2 => absurd d2 (by omega)⟩)⟩
theorem cq_makeOffer {post : St1 → Prop} (hr : r < 20) (hR : cq_R hd st sz pt ng r) (hng : ∀ i, ng i ≤ 1) (hvl : ∀ c, c < 16 → vl c ≤ 100) (hog : ∀ c, c < 16 → og c ≤ 100) (hse : ∀ c, c < 16 → se c ≤ 1)
    (H : post (cq_S ds cnt cu hd st sz pt ng dp dn sn vl (cq_mo hd st sz pt ng vl se r og) se wt K)) : wpX_makeOffer post (cq_S ds cnt cu hd st sz pt ng dp dn sn vl og se wt K) (nI r) := by
  have h1 := hR.1
  have b1 := hog _ h1
  have b2 := hse _ h1
  have b3 := cq_worth_100 (sz := sz) (pt := pt) (ng := ng) (vl := vl) hR.2.2.1
  refine ⟨pk_in r 20 hr, nm_r (e' := nI (hd r)) (by rw [nI_clamp (by omega)]; rfl) (br_f (cq_nm1 (by omega)) ⟨pk_in (hd r) 16 h1, ?_⟩)⟩
  rw [nI_clamp (show hd r < 2 ^ 31 by omega)]
  refine pk_eq (se (hd r)) 0 (fun z => cq_worthW hr hR hng hvl ⟨pk_in (hd r) 16 h1, pk_le (cq_worth st sz pt ng vl r) (og (hd r)) (fun z2 => ?_) (fun z2 => ⟨pk_in (hd r) 16 h1, nm_r (cq_upd _ _ _) ?_⟩)⟩) (fun z => ?_)
  · have e : og = cq_mo hd st sz pt ng vl se r og := by
      funext c
      by_cases f : c = hd r
      · rw [cq_mo_y f (by rw [f]; exact z), f]
        omega
      · rw [cq_mo_n f]
    rw [← e] at H
    exact H
  · have e : cq_u og (hd r) (cq_worth st sz pt ng vl r) = cq_mo hd st sz pt ng vl se r og := by
      funext c
      by_cases f : c = hd r
      · rw [cq_mo_y f (by rw [f]; exact z), f, cq_us]
        omega
      · rw [cq_mo_n f, cq_un f]
    rw [← e] at H
    exact H
  · have e : og = cq_mo hd st sz pt ng vl se r og := by
      funext c
      by_cases f : c = hd r
      · rw [cq_mo_s (by rw [f]; exact z)]
      · rw [cq_mo_n f]
    rw [← e] at H
    exact H
theorem cq_count10 {post : St1 → Prop} {c w0 : Nat} (hr : r < 20) (hR : cq_R hd st sz pt ng r) (hng : ∀ i, ng i ≤ 1) (hvl : ∀ c, c < 16 → vl c ≤ 100) (hog : ∀ c, c < 16 → og c ≤ 100) (hse : ∀ c, c < 16 → se c ≤ 1)
    (hc : c < 16) (h3 : w0 ≤ 3) (he : cq_eqs pt c (3 * r) (sz r) ≤ w0)
    (H1 : ∀ wt', (∀ j, j ≠ r → wt' j = wt j) → wt' r + cq_eqs pt c (3 * r) (sz r) = w0 → w0 = 0 ∨ wt' r ≠ 0 → post (cq_S ds cnt cu hd st sz pt ng dp dn sn vl og se wt' K))
    (H2 : ∀ wt', (∀ j, j ≠ r → wt' j = wt j) → wt' r + cq_eqs pt c (3 * r) (sz r) = w0 → 0 < w0 → wt' r = 0 → post (cq_S ds cnt cu hd st sz pt ng dp dn sn vl (cq_mo hd st sz pt ng vl se r og) se wt' K)) :
    ∀ f k wt1, k ≤ sz r → sz r - k < f → (∀ j, j ≠ r → wt1 j = wt j) → wt1 r + cq_eqs pt c (3 * r) k = w0 → wX_count_10 post (nI r) (nI c) (nI w0) (nI ds) (nI cnt) (-1) (nI cu) f (nI k) (cq_a hd) (cq_a st) (cq_a sz) (cq_a pt) (cq_a ng) (cq_a dp) (cq_a dn) (cq_a sn) (cq_a vl) (cq_a og) (cq_a se) (cq_a wt1) K := by
  intro f
  induction f with
  | zero => intro k wt1 _ z; omega
  | succ f ih =>
    intro k wt1 hk hf hw1 hw2
    obtain ⟨r1, r2, r3, r4, r5⟩ := hR
    have e3 : (3 : Int32) * nI r + nI k = nI (3 * r + k) := cq_ix r k
    refine ⟨pk_in r 20 hr, ?_⟩
    rw [nI_clamp (show r < 2 ^ 31 by omega), e3, nI_clamp (show 3 * r + k < 2 ^ 31 by omega)]
    refine pk_le (sz r) k (fun z => ?_) (fun z => ⟨pk_in (3 * r + k) 60 (by omega), ?_⟩)
    · have ek : k = sz r := by omega
      rw [ek] at hw2
      refine pk_le w0 0 (fun z1 => H1 wt1 hw1 hw2 (Or.inl (by omega))) (fun z1 => ⟨pk_in r 20 hr, ?_⟩)
      refine pk_eq (wt1 r) 0 (fun z2 => ?_) (fun z2 => H1 wt1 hw1 hw2 (Or.inr z2))
      exact cq_makeOffer hr ⟨r1, r2, r3, r4, r5⟩ hng hvl hog hse (H2 wt1 hw1 hw2 z1 z2)
    · have hp := (r5 k z).1
      have hm := cq_eqs_m (pt := pt) (c := c) (b := 3 * r) (j := k + 1) (sz r) (by omega)
      have hs : cq_eqs pt c (3 * r) (k + 1) = cq_eqs pt c (3 * r) k + (if pt (3 * r + k) = c then 1 else 0) := rfl
      refine pk_eq (pt (3 * r + k)) c (fun z0 => ⟨pk_in r 20 hr, pk_in r 20 hr, nm_r (e' := cq_a (cq_u wt1 r (wt1 r - 1))) ?_ (nm_r (nI_1 k) (ih (k + 1) _ (by omega) (by omega) ?_ ?_))⟩)
        (fun z0 => nm_r (nI_1 k) (ih (k + 1) wt1 (by omega) (by omega) hw1 ?_))
      · rw [if_pos z0] at hs
        rw [← cq_upd, cq_c]
        rw [show nI (wt1 r) - 1 = nI (wt1 r - 1) from pk_sub (b := 1) (by omega)]
      · intro j hj
        rw [cq_un hj]
        exact hw1 j hj
      · rw [if_pos z0] at hs
        rw [cq_us]
        omega
      · rw [if_neg z0] at hs
        omega
theorem cq_countW {post : St1 → Prop} {c : Nat} (hr : r < 20) (hR : cq_R hd st sz pt ng r) (hng : ∀ i, ng i ≤ 1) (hvl : ∀ c, c < 16 → vl c ≤ 100) (hog : ∀ c, c < 16 → og c ≤ 100) (hse : ∀ c, c < 16 → se c ≤ 1)
    (hc : c < 16) (h3 : wt r ≤ 3) (he : cq_eqs pt c (3 * r) (sz r) ≤ wt r)
    (H : ∀ og' wt', (∀ j, j ≠ r → wt' j = wt j) → wt' r + cq_eqs pt c (3 * r) (sz r) = wt r →
      ((og' = og ∧ (wt r = 0 ∨ wt' r ≠ 0)) ∨ (0 < wt r ∧ wt' r = 0 ∧ og' = cq_mo hd st sz pt ng vl se r og)) → post (cq_S ds cnt cu hd st sz pt ng dp dn sn vl og' se wt' K)) :
    wpX_count post (cq_S ds cnt cu hd st sz pt ng dp dn sn vl og se wt K) (nI r) (nI c) := by
  refine ⟨pk_in r 20 hr, nm_r (e' := nI (wt r)) (by rw [nI_clamp (by omega)]; rfl) ⟨sz r + 1, ?_⟩⟩
  exact cq_count10 hr hR hng hvl hog hse hc h3 he (fun wt' a b d => H og wt' a b (Or.inl ⟨rfl, d⟩)) (fun wt' a b d e => H _ wt' a b (Or.inr ⟨d, e, rfl⟩)) (sz r + 1) 0 wt (by omega) (by omega) (fun _ _ => rfl) rfl
end WALKS
end
section
/-! ===== settleAll, refresh ===== -/
section SETTLE
variable {ds cnt cu : Nat} {hd st sz pt ng dp dn sn vl og se wt : Nat → Nat} {K : Nat → Int32}
theorem cq_set121 {post : St1 → Prop} {J : Int32 → Int32 → Int32 → Int32 → Int32 → (Nat → Int32) → (Nat → Int32) → (Nat → Int32) → (Nat → Int32) → (Nat → Int32) → (Nat → Int32) → (Nat → Int32) → (Nat → Int32) → (Nat → Int32) → (Nat → Int32) → (Nat → Int32) → (Nat → Int32) → (Nat → Int32) → Prop} {t c : Nat} {so : Nat → Nat}
    (W : cq_WF cnt hd st sz pt ng) (hng : ∀ i, ng i ≤ 1) (ht : t < 16)
    (H : ∀ og wt, cq_T cnt hd st sz pt ng sn vl og (cq_u so c 1) wt (t + 1) → J (nI (t + 1)) (nI ds) (nI cnt) (-1) (nI cu) (cq_a hd) (cq_a st) (cq_a sz) (cq_a pt) (cq_a ng) (cq_a dp) (cq_a dn) (cq_a sn) (cq_a vl) (cq_a og) (cq_a (cq_u so c 1)) (cq_a wt) K) :
    ∀ f i og wt, i ≤ cnt → cnt - i < f → cq_N cnt hd st sz pt ng sn vl og so wt t c i → wX_settleAll_121 post J (nI t) (nI c) f (nI i) (nI ds) (nI cnt) (-1) (nI cu) (cq_a hd) (cq_a st) (cq_a sz) (cq_a pt) (cq_a ng) (cq_a dp) (cq_a dn) (cq_a sn) (cq_a vl) (cq_a og) (cq_a (cq_u so c 1)) (cq_a wt) K := by
  intro f
  induction f with
  | zero => intro i og wt _ z; omega
  | succ f ih =>
    intro i og wt hi hf N
    have hc20 := W.1
    refine pk_le cnt i (fun z => nm_r (nI_1 t) (H og wt (cq_N_T z N))) (fun z => ?_)
    have N' := N
    obtain ⟨B, h0, hc, hc4, hL, hm, hD1, hD2⟩ := N'
    have hR := W.2 i z
    have hwi := (hD2 i (Nat.le_refl i) z).1
    have hu := cq_uns_c (pt := pt) (b := 3 * i) h0 (sz i)
    have hl := cq_uns_le pt so (3 * i) (sz i)
    have hs3 := hR.2.2.2.1
    refine cq_countW (by omega) hR hng (fun d hd' => (B.1 d hd').2.1) (fun d hd' => (B.1 d hd').2.2.2.1) (fun d hd' => (B.1 d hd').1) hc (by omega) (by omega) (fun og' wt' a b d => nm_r (nI_1 i) (ih (i + 1) og' wt' (by omega) (by omega) ?_))
    exact cq_N_s W N z a b d
theorem cq_sh (t : Nat) (h : t < 2 ^ 31) : (4 : Int32) * (nI t >>> ((2 : Int32) &&& 31)) = nI (4 * (t / 4)) := by
  rw [pk_shrN h _ 2 (by decide), show (4 : Int32) = nI 4 from rfl, pk_mul]
theorem cq_set84 {post : St1 → Prop} (W : cq_WF cnt hd st sz pt ng) (hng : ∀ i, ng i ≤ 1)
    (H : ∀ vl og se wt, cq_FIN cnt hd st sz pt ng sn vl → post (cq_S ds cnt cu hd st sz pt ng dp dn sn vl og se wt K)) :
    ∀ f t vl og se wt, t ≤ 16 → 16 - t < f → cq_T cnt hd st sz pt ng sn vl og se wt t → wX_settleAll_84 post f (nI t) (nI ds) (nI cnt) (-1) (nI cu) (cq_a hd) (cq_a st) (cq_a sz) (cq_a pt) (cq_a ng) (cq_a dp) (cq_a dn) (cq_a sn) (cq_a vl) (cq_a og) (cq_a se) (cq_a wt) K := by
  intro f
  induction f with
  | zero => intro t vl og se wt _ z; omega
  | succ f ih =>
    intro t vl og se wt ht hf T
    refine pk_le 16 t (fun z => ?_) (fun z => ?_)
    · have et : t = 16 := by omega
      subst et
      exact H vl og se wt (cq_T_FIN W T)
    · rw [cq_sh t (by omega)]
      have B1 := T.1.1
      refine cq_bestW (by omega) (fun c hc => (B1 c hc).1) (fun c hc => (B1 c hc).2.2.2.1) (cq_L_ex T.2.1 (by omega)) (fun c c1 c2 c3 c4 => ?_)
      have hc : c < 16 := by omega
      have e1 : (nI c).toNatClampNeg = c := nI_clamp (by omega)
      have N := cq_pick T hc c3 (by omega) (fun d d1 d2 d3 => c4 d (by omega) (by omega) d3)
      refine ⟨pk_in c 16 hc, nm_r (e' := cq_a (cq_u se c 1)) (by rw [e1]; exact cq_upd se c 1) ⟨pk_in c 16 hc, pk_in c 16 hc, nm_r (e' := cq_a (cq_u vl c (og c))) (by rw [e1]; exact cq_upd vl c (og c)) ⟨cnt + 1, ?_⟩⟩⟩
      exact cq_set121 W hng (by omega) (fun og' wt' T' => ih (t + 1) _ og' _ wt' (by omega) (by omega) T') (cnt + 1) 0 og wt (by omega) (by omega) N
theorem cq_set42 {post : St1 → Prop} (W : cq_WF cnt hd st sz pt ng) (hng : ∀ i, ng i ≤ 1)
    (H : ∀ vl og se wt, cq_FIN cnt hd st sz pt ng sn vl → post (cq_S ds cnt cu hd st sz pt ng dp dn sn vl og se wt K)) :
    ∀ f i og wt, i ≤ cnt → cnt - i < f → cq_M cnt hd st sz pt ng sn vl og se wt i → wX_settleAll_42 post f (nI i) (nI ds) (nI cnt) (-1) (nI cu) (cq_a hd) (cq_a st) (cq_a sz) (cq_a pt) (cq_a ng) (cq_a dp) (cq_a dn) (cq_a sn) (cq_a vl) (cq_a og) (cq_a se) (cq_a wt) K := by
  intro f
  induction f with
  | zero => intro i og wt _ z; omega
  | succ f ih =>
    intro i og wt hi hf M
    have hc20 := W.1
    refine pk_le cnt i (fun z => ⟨17, cq_set84 W hng H 17 0 vl og se wt (by omega) (by omega) (cq_M_T z M)⟩) (fun z => ?_)
    have hR := W.2 i z
    have hs3 := hR.2.2.2.1
    have e1 : (nI i).toNatClampNeg = i := nI_clamp (by omega)
    have B1 := M.2.1.1
    refine ⟨pk_in i 20 (by omega), pk_in i 20 (by omega), nm_r (e' := cq_a (cq_u wt i (sz i))) (by rw [e1]; exact cq_upd wt i (sz i)) ⟨pk_in i 20 (by omega), ?_⟩⟩
    rw [e1]
    refine pk_eq (sz i) 0 (fun z0 => ?_) (fun z0 => nm_r (nI_1 i) (ih (i + 1) og _ (by omega) (by omega) (cq_M_s W M z z0)))
    refine cq_makeOffer (by omega) hR hng (fun d hd' => (B1 d hd').2.1) (fun d hd' => (B1 d hd').2.2.2.1) (fun d hd' => (B1 d hd').1) (nm_r (nI_1 i) ?_)
    exact ih (i + 1) _ _ (by omega) (by omega) (cq_M_0 W M z z0)
theorem cq_set2 {post : St1 → Prop} (W : cq_WF cnt hd st sz pt ng) (hng : ∀ i, ng i ≤ 1) (hsn : ∀ c, c < 16 → sn c ≤ 100)
    (H : ∀ vl og se wt, cq_FIN cnt hd st sz pt ng sn vl → post (cq_S ds cnt cu hd st sz pt ng dp dn sn vl og se wt K)) :
    ∀ f i vl og se, i ≤ 16 → 16 - i < f → (∀ c, c < i → se c = 0 ∧ vl c = 0 ∧ og c = sn c) → wX_settleAll_2 post (nI ds) (nI cnt) (-1) (nI cu) f (nI i) (cq_a hd) (cq_a st) (cq_a sz) (cq_a pt) (cq_a ng) (cq_a dp) (cq_a dn) (cq_a sn) (cq_a vl) (cq_a og) (cq_a se) (cq_a wt) K := by
  intro f
  induction f with
  | zero => intro i vl og se _ z; omega
  | succ f ih =>
    intro i vl og se hi hf h
    refine pk_le 16 i (fun z => ⟨cnt + 1, ?_⟩) (fun z => ?_)
    · have ei : i = 16 := by omega
      subst ei
      exact cq_set42 W hng H (cnt + 1) 0 og wt (by omega) (by omega) (cq_M_b (fun c hc => (h c hc).1) (fun c hc => (h c hc).2.1) (fun c hc => (h c hc).2.2) hsn)
    · have e1 : (nI i).toNatClampNeg = i := nI_clamp (by omega)
      refine ⟨pk_in i 16 z, nm_r (e' := cq_a (cq_u se i 0)) (by rw [e1]; exact cq_upd se i 0) ⟨pk_in i 16 z, nm_r (e' := cq_a (cq_u vl i 0)) (by rw [e1]; exact cq_upd vl i 0) ⟨pk_in i 16 z, pk_in i 16 z, nm_r (e' := cq_a (cq_u og i (sn i))) (by rw [e1]; exact cq_upd og i (sn i)) (nm_r (nI_1 i) (ih (i + 1) _ _ _ (by omega) (by omega) (fun c hc => ?_)))⟩⟩⟩
      by_cases e : c = i
      · subst e
        rw [cq_us, cq_us, cq_us]
        exact ⟨rfl, rfl, rfl⟩
      · rw [cq_un e, cq_un e, cq_un e]
        exact h c (by omega)
theorem cq_settleAll {post : St1 → Prop} (W : cq_WF cnt hd st sz pt ng) (hng : ∀ i, ng i ≤ 1) (hsn : ∀ c, c < 16 → sn c ≤ 100)
    (H : ∀ vl og se wt, cq_FIN cnt hd st sz pt ng sn vl → post (cq_S ds cnt cu hd st sz pt ng dp dn sn vl og se wt K)) : wpX_settleAll post (cq_S ds cnt cu hd st sz pt ng dp dn sn vl og se wt K) :=
  ⟨17, cq_set2 W hng hsn H 17 0 vl og se (by omega) (by omega) (fun c hc => absurd hc (by omega))⟩
/-- a fresh object stays as it is -/
theorem cq_refresh1 {post : St1 → Prop} (H : post (cq_S ds cnt 1 hd st sz pt ng dp dn sn vl og se wt K)) : wpX_refresh post (cq_S ds cnt 1 hd st sz pt ng dp dn sn vl og se wt K) := br_f (by decide) H
theorem cq_refresh {post : St1 → Prop} (W : cq_WF cnt hd st sz pt ng) (hng : ∀ i, ng i ≤ 1) (hsn : ∀ c, c < 16 → sn c ≤ 100) (hcu : cu ≤ 1) (hF : cu ≠ 0 → cq_FIN cnt hd st sz pt ng sn vl)
    (H : ∀ vl og se wt, cq_FIN cnt hd st sz pt ng sn vl → post (cq_S ds cnt 1 hd st sz pt ng dp dn sn vl og se wt K)) : wpX_refresh post (cq_S ds cnt cu hd st sz pt ng dp dn sn vl og se wt K) := by
  refine pk_eq cu 0 (fun z => cq_settleAll W hng hsn (fun vl' og' se' wt' h => H vl' og' se' wt' h)) (fun z => ?_)
  have e : cu = 1 := by omega
  subst e
  exact H vl og se wt (hF z)
end SETTLE
end
section
/-! ===== what the law asks: certainty, observed, supporter, yield, headOf, holds ===== -/
section ASKS
variable {ds cnt cu : Nat} {hd st sz pt ng dp dn sn vl og se wt : Nat → Nat} {K : Nat → Int32} {r c : Nat}
theorem cq_isClaim {post : Int32 → Prop} (hc : c < 16) (H : post 1) : wpX_isClaim post () (nI c) :=
  br_f (nI_pos (by omega)) (br_f (nI_ge (b := 16) hc (by decide)) H)
theorem cq_isRule {post : Int32 → Prop} (hr : r < cnt) (h20 : cnt ≤ 20) (H : post 1) : wpX_isRule post (cq_S ds cnt cu hd st sz pt ng dp dn sn vl og se wt K) (nI r) :=
  br_f (nI_pos (by omega)) (br_f (nI_ge hr (by omega)) H)
theorem cq_headOf {post : Int32 → Prop} (hr : r < cnt) (h20 : cnt ≤ 20) (H : post (nI (hd r))) : wpX_headOf post (cq_S ds cnt cu hd st sz pt ng dp dn sn vl og se wt K) (nI r) := by
  unfold wpX_headOf
  refine cq_isRule hr h20 (br_f (by decide) ⟨pk_in r 20 (by omega), ?_⟩)
  rw [nI_clamp (by omega)]
  exact H
theorem cq_observed {post : Int32 → Prop} (hc : c < 16) (H : post (nI (sn c))) : wpX_observed post (cq_S ds cnt cu hd st sz pt ng dp dn sn vl og se wt K) (nI c) := by
  unfold wpX_observed
  refine cq_isClaim hc (br_f (by decide) ⟨pk_in c 16 hc, ?_⟩)
  rw [nI_clamp (by omega)]
  exact H
theorem cq_certainty {post : Int32 → St1 → Prop} (W : cq_WF cnt hd st sz pt ng) (hng : ∀ i, ng i ≤ 1) (hsn : ∀ c, c < 16 → sn c ≤ 100) (hcu : cu ≤ 1) (hF : cu ≠ 0 → cq_FIN cnt hd st sz pt ng sn vl) (hc : c < 16)
    (H : ∀ vl og se wt, cq_FIN cnt hd st sz pt ng sn vl → post (nI (vl c)) (cq_S ds cnt 1 hd st sz pt ng dp dn sn vl og se wt K)) : wpX_certainty post (cq_S ds cnt cu hd st sz pt ng dp dn sn vl og se wt K) (nI c) := by
  unfold wpX_certainty
  refine cq_isClaim hc (br_f (by decide) (cq_refresh W hng hsn hcu hF (fun vl' og' se' wt' h => ⟨pk_in c 16 hc, ?_⟩)))
  rw [nI_clamp (by omega)]
  exact H vl' og' se' wt' h
theorem cq_yield1 {post : Int32 → St1 → Prop} (W : cq_WF cnt hd st sz pt ng) (hng : ∀ i, ng i ≤ 1) (hF : cq_FIN cnt hd st sz pt ng sn vl) (hr : r < cnt)
    (H : post (nI (cq_worth st sz pt ng vl r)) (cq_S ds cnt 1 hd st sz pt ng dp dn sn vl og se wt K)) : wpX_yield post (cq_S ds cnt 1 hd st sz pt ng dp dn sn vl og se wt K) (nI r) := by
  have h20 := W.1
  unfold wpX_yield
  exact cq_isRule hr h20 (br_f (by decide) (cq_refresh1 (cq_worthW (by omega) (W.2 r hr) hng (fun d hd' => (hF.1 d hd').2.1) H)))
theorem cq_sup15 {post : Int32 → St1 → Prop} {q : Nat} (W : cq_WF cnt hd st sz pt ng) (hng : ∀ i, ng i ≤ 1) (hvl : ∀ c, c < 16 → vl c ≤ 100) (hc : c < 16) (hq : q < cnt) (hqc : hd q = c) (hqw : cq_worth st sz pt ng vl q = vl c) (hv : 0 < vl c)
    (H : ∀ r, r < cnt → post (nI r) (cq_S ds cnt cu hd st sz pt ng dp dn sn vl og se wt K)) : ∀ f i, i ≤ q → q - i < f → wX_supporter_15 post (nI c) (nI ds) (nI cnt) (-1) (nI cu) (cq_a hd) (cq_a st) (cq_a sz) (cq_a pt) (cq_a ng) (cq_a dp) (cq_a dn) (cq_a sn) (cq_a vl) (cq_a og) (cq_a se) (cq_a wt) K f (nI i) := by
  have h20 := W.1
  have hv1 := hvl c hc
  intro f
  induction f with
  | zero => intro i _ z; omega
  | succ f ih =>
    intro i hi hf
    have hR := W.2 i (by omega)
    have h16 := hR.1
    have hw := cq_worth_100 (sz := sz) (pt := pt) (ng := ng) (vl := vl) hR.2.2.1
    refine pk_le cnt i (fun z => absurd z (by omega)) (fun z => ⟨pk_in i 20 (by omega), ?_⟩)
    rw [nI_clamp (show i < 2 ^ 31 by omega), nI_clamp (show c < 2 ^ 31 by omega)]
    refine pk_eq (hd i) c (fun z0 => ⟨pk_in c 16 hc, pk_le (vl c) 0 (fun z1 => absurd z1 (by omega)) (fun z1 => cq_worthW (by omega) hR hng hvl ⟨pk_in c 16 hc, pk_eq (cq_worth st sz pt ng vl i) (vl c) (fun _ => H i z) (fun z2 => nm_r (nI_1 i) (ih (i + 1) ?_ ?_))⟩)⟩)
      (fun z0 => nm_r (nI_1 i) (ih (i + 1) ?_ ?_))
    · have : i ≠ q := fun e => z2 (by rw [e]; exact hqw)
      omega
    · have : i ≠ q := fun e => z2 (by rw [e]; exact hqw)
      omega
    · have : i ≠ q := fun e => z0 (by rw [e]; exact hqc)
      omega
    · have : i ≠ q := fun e => z0 (by rw [e]; exact hqc)
      omega
theorem cq_supporter1 {post : Int32 → St1 → Prop} (W : cq_WF cnt hd st sz pt ng) (hng : ∀ i, ng i ≤ 1) (hF : cq_FIN cnt hd st sz pt ng sn vl) (hc : c < 16) (hv : sn c < vl c)
    (H : ∀ r, r < cnt → post (nI r) (cq_S ds cnt 1 hd st sz pt ng dp dn sn vl og se wt K)) : wpX_supporter post (cq_S ds cnt 1 hd st sz pt ng dp dn sn vl og se wt K) (nI c) := by
  obtain ⟨q, q1, q2, q3⟩ := (hF.1 c hc).2.2 hv
  unfold wpX_supporter
  exact cq_isClaim hc (br_f (by decide) (cq_refresh1 ⟨q + 1, cq_sup15 W hng (fun d hd' => (hF.1 d hd').2.1) hc q1 q2 q3 (by omega) H (q + 1) 0 (by omega) (by omega)⟩))
theorem cq_holds61 {post : Int32 → St1 → Prop} (W : cq_WF cnt hd st sz pt ng) (hng : ∀ i, ng i ≤ 1) (hsn : ∀ c, c < 16 → sn c ≤ 100)
    (H : ∀ cu vl og se wt, cu ≤ 1 → (cu ≠ 0 → cq_FIN cnt hd st sz pt ng sn vl) → post 1 (cq_S ds cnt cu hd st sz pt ng dp dn sn vl og se wt K)) :
    ∀ f i cu vl og se wt, i ≤ cnt → cnt - i < f → cu ≤ 1 → (cu ≠ 0 → cq_FIN cnt hd st sz pt ng sn vl) → wL_holds_61 post (nI cnt) f (nI i) (nI ds) (nI cnt) (-1) (nI cu) (cq_a hd) (cq_a st) (cq_a sz) (cq_a pt) (cq_a ng) (cq_a dp) (cq_a dn) (cq_a sn) (cq_a vl) (cq_a og) (cq_a se) (cq_a wt) K := by
  have h20 := W.1
  intro f
  induction f with
  | zero => intro i cu vl og se wt _ z; omega
  | succ f ih =>
    intro i cu vl og se wt hi hf hcu hF
    refine pk_le cnt i (fun z => br_f (nI_pos (by omega)) (br_f (nI_nlt (b := cnt) (a := 20) h20 (by decide)) (H cu vl og se wt hcu hF))) (fun z => ?_)
    have hR := W.2 i z
    have hw := fun v : Nat → Nat => cq_worth_100 (sz := sz) (pt := pt) (ng := ng) (vl := v) hR.2.2.1
    refine cq_headOf z h20 (cq_certainty W hng hsn hcu hF hR.1 (fun vl' og' se' wt' h => cq_yield1 W hng h z ?_))
    have h1 := h.2 i z
    have h2 := (h.1 _ hR.1).2.1
    have h3 := hw vl'
    exact pk_le (cq_worth st sz pt ng vl' i) (vl' (hd i)) (fun _ => nm_r (nI_1 i) (ih (i + 1) 1 vl' og' se' wt' (by omega) (by omega) (by omega) (fun _ => h))) (fun z1 => absurd z1 (by omega))
theorem cq_holds2 {post : Int32 → St1 → Prop} (W : cq_WF cnt hd st sz pt ng) (hng : ∀ i, ng i ≤ 1) (hsn : ∀ c, c < 16 → sn c ≤ 100)
    (H : ∀ cu vl og se wt, cu ≤ 1 → (cu ≠ 0 → cq_FIN cnt hd st sz pt ng sn vl) → post 1 (cq_S ds cnt cu hd st sz pt ng dp dn sn vl og se wt K)) :
    ∀ f i cu vl og se wt, i ≤ 16 → 16 - i < f → cu ≤ 1 → (cu ≠ 0 → cq_FIN cnt hd st sz pt ng sn vl) → wL_holds_2 post f (nI i) (nI ds) (nI cnt) (-1) (nI cu) (cq_a hd) (cq_a st) (cq_a sz) (cq_a pt) (cq_a ng) (cq_a dp) (cq_a dn) (cq_a sn) (cq_a vl) (cq_a og) (cq_a se) (cq_a wt) K := by
  have h20 := W.1
  intro f
  induction f with
  | zero => intro i cu vl og se wt _ z; omega
  | succ f ih =>
    intro i cu vl og se wt hi hf hcu hF
    refine pk_le 16 i (fun z => ⟨cnt + 1, cq_holds61 W hng hsn H (cnt + 1) 0 cu vl og se wt (by omega) (by omega) hcu hF⟩) (fun z => ?_)
    refine cq_certainty W hng hsn hcu hF z (fun vl' og' se' wt' h => cq_observed z ?_)
    obtain ⟨f1, f2, f3⟩ := h.1 i z
    have hs := hsn i z
    have t := ih (i + 1) 1 vl' og' se' wt' (by omega) (by omega) (by omega) (fun _ => h)
    refine pk_lt (vl' i) (sn i) (fun z1 => absurd z1 (by omega)) (fun z1 => pk_le (vl' i) 100 (fun z2 => pk_le (vl' i) (sn i) (fun z3 => nm_r (nI_1 i) t) (fun z3 => ?_)) (fun z2 => absurd z2 (by omega)))
    exact cq_supporter1 W hng h z z3 (fun r hr => br_t (nI_pos' (by omega)) (nm_r (nI_1 i) t))
theorem cq_holds {post : Int32 → St1 → Prop} (W : cq_WF cnt hd st sz pt ng) (hng : ∀ i, ng i ≤ 1) (hsn : ∀ c, c < 16 → sn c ≤ 100) (hcu : cu ≤ 1) (hF : cu ≠ 0 → cq_FIN cnt hd st sz pt ng sn vl)
    (H : ∀ cu vl og se wt, cu ≤ 1 → (cu ≠ 0 → cq_FIN cnt hd st sz pt ng sn vl) → post 1 (cq_S ds cnt cu hd st sz pt ng dp dn sn vl og se wt K)) : wpL_holds post (cq_S ds cnt cu hd st sz pt ng dp dn sn vl og se wt K) :=
  ⟨17, cq_holds2 W hng hsn H 17 0 cu vl og se wt (by omega) (by omega) hcu hF⟩
end ASKS
end
section
/-! ===== what a turn does ===== -/
/-- the law's invariant -/
def cq_I (ds cnt cu : Nat) (hd st sz pt ng dp dn sn vl : Nat → Nat) : Prop :=
  ds ≤ 3 ∧ cq_WF cnt hd st sz pt ng ∧ (∀ i, ng i ≤ 1) ∧ (∀ i, dn i ≤ 1) ∧ (∀ i, dp i < 16) ∧ (∀ c, c < 16 → sn c ≤ 100) ∧ cu ≤ 1 ∧ (cu ≠ 0 → cq_FIN cnt hd st sz pt ng sn vl)
theorem cq_ub {f : Nat → Nat} {k v b : Nat} (h : ∀ i, f i ≤ b) (hv : v ≤ b) : ∀ i, cq_u f k v i ≤ b := by
  intro i
  by_cases e : i = k
  · rw [e, cq_us]; exact hv
  · rw [cq_un e]; exact h i
theorem cq_ul {f : Nat → Nat} {k v b : Nat} (h : ∀ i, f i < b) (hv : v < b) : ∀ i, cq_u f k v i < b := by
  intro i
  by_cases e : i = k
  · rw [e, cq_us]; exact hv
  · rw [cq_un e]; exact h i
/-- a rule moved, whole -/
theorem cq_R_c {hd st sz pt ng hd' st' sz' pt' ng' : Nat → Nat} {r q : Nat} (h : cq_R hd st sz pt ng r) (e1 : hd' q = hd r) (e2 : st' q = st r) (e3 : sz' q = sz r)
    (e4 : ∀ k, k < 3 → pt' (3 * q + k) = pt (3 * r + k)) (e5 : ∀ k, k < 3 → ng' (3 * q + k) = ng (3 * r + k)) : cq_R hd' st' sz' pt' ng' q := by
  obtain ⟨r1, r2, r3, r4, r5⟩ := h
  unfold cq_R
  rw [e1, e2, e3]
  refine ⟨r1, r2, r3, r4, fun k hk => ?_⟩
  rw [e4 k (by omega), e5 k (by omega)]
  exact r5 k hk
section TURN
variable {ds cnt cu : Nat} {hd st sz pt ng dp dn sn vl og se wt : Nat → Nat} {K : Nat → Int32}
theorem cq_premise {post : Int32 → St1 → Prop} {c : Nat} (I : cq_I ds cnt cu hd st sz pt ng dp dn sn vl) (hc : c < 16) (p1 : Int32)
    (H : ∀ x ds dp dn, cq_I ds cnt cu hd st sz pt ng dp dn sn vl → post x (cq_S ds cnt cu hd st sz pt ng dp dn sn vl og se wt K)) : wpX_premise post (cq_S ds cnt cu hd st sz pt ng dp dn sn vl og se wt K) (nI c) p1 := by
  have I' := I
  obtain ⟨i1, i2, i3, i4, i5, i6, i7, i8⟩ := I'
  have e1 : (nI ds).toNatClampNeg = ds := nI_clamp (by omega)
  unfold wpX_premise
  refine cq_isClaim hc (br_f (by decide) (pk_eq ds 3 (fun z => H _ ds dp dn I) (fun z => ⟨pk_in ds 3 (by omega), nm_r (e' := cq_a (cq_u dp ds c)) (by rw [e1]; exact cq_upd dp ds c) ?_⟩)))
  refine br_c (fun _ => ⟨pk_in ds 3 (by omega), nm_r (e' := cq_a (cq_u dn ds 0)) ?_ (nm_r (nI_1 ds) (H _ _ _ _ ⟨by omega, i2, i3, cq_ub i4 (by decide), cq_ul i5 hc, i6, i7, i8⟩))⟩)
    (fun _ => ⟨pk_in ds 3 (by omega), nm_r (e' := cq_a (cq_u dn ds 1)) ?_ (nm_r (nI_1 ds) (H _ _ _ _ ⟨by omega, i2, i3, cq_ub i4 (by decide), cq_ul i5 hc, i6, i7, i8⟩))⟩)
  · rw [e1]
    exact (congrArg (upd (cq_a dn) ds) (cq_nb (b := 0) (by decide))).trans (cq_upd dn ds 0)
  · rw [e1]
    exact (congrArg (upd (cq_a dn) ds) (cq_nb (b := 1) (by decide))).trans (cq_upd dn ds 1)
theorem cq_clear {post : Int32 → St1 → Prop} (I : cq_I ds cnt cu hd st sz pt ng dp dn sn vl)
    (H : ∀ x ds, cq_I ds cnt cu hd st sz pt ng dp dn sn vl → post x (cq_S ds cnt cu hd st sz pt ng dp dn sn vl og se wt K)) : wpX_clear post (cq_S ds cnt cu hd st sz pt ng dp dn sn vl og se wt K) := by
  obtain ⟨i1, i2, i3, i4, i5, i6, i7, i8⟩ := I
  exact H _ 0 ⟨by omega, i2, i3, i4, i5, i6, i7, i8⟩
theorem cq_observe {post : Int32 → St1 → Prop} {c v : Nat} (I : cq_I ds cnt cu hd st sz pt ng dp dn sn vl) (hc : c < 16) (hv : v ≤ 100)
    (H : ∀ x cu sn, cq_I ds cnt cu hd st sz pt ng dp dn sn vl → post x (cq_S ds cnt cu hd st sz pt ng dp dn sn vl og se wt K)) : wpX_observe post (cq_S ds cnt cu hd st sz pt ng dp dn sn vl og se wt K) (nI c) (nI v) := by
  obtain ⟨i1, i2, i3, i4, i5, i6, i7, i8⟩ := I
  have e1 : (nI c).toNatClampNeg = c := nI_clamp (by omega)
  unfold wpX_observe
  refine cq_isClaim hc (br_f (by decide) (br_f (nI_pos (by omega)) (pk_le v 100 (fun z => ⟨pk_in c 16 hc, nm_e ⟨pk_in c 16 hc, nm_r (e' := cq_a (cq_u sn c v)) (by rw [e1]; exact cq_upd sn c v) (H _ 0 _ ⟨i1, i2, i3, i4, i5, fun d hd' => ?_, by omega, fun z => absurd rfl z⟩)⟩⟩) (fun z => absurd z (by omega)))))
  by_cases e : d = c
  · rw [e, cq_us]; exact hv
  · rw [cq_un e]; exact i6 d hd'
/-- a rule asked for by any number of few bits: there or not -/
theorem cq_isRuleE {post : Int32 → Prop} {q : Nat} (hq : q < 32) (h20 : cnt ≤ 20) (H0 : post 0) (H1 : q < cnt → post 1) : wpX_isRule post (cq_S ds cnt cu hd st sz pt ng dp dn sn vl og se wt K) (nI q) :=
  br_f (nI_pos (by omega)) (pk_le cnt q (fun _ => H0) (fun z => H1 z))
theorem cq_strengthen {post : Int32 → St1 → Prop} {q v : Nat} (I : cq_I ds cnt cu hd st sz pt ng dp dn sn vl) (hq : q < 32) (hv1 : 1 ≤ v) (hv : v ≤ 100)
    (H : ∀ x cu st, cq_I ds cnt cu hd st sz pt ng dp dn sn vl → post x (cq_S ds cnt cu hd st sz pt ng dp dn sn vl og se wt K)) : wpX_strengthen post (cq_S ds cnt cu hd st sz pt ng dp dn sn vl og se wt K) (nI q) (nI v) := by
  have I' := I
  obtain ⟨i1, i2, i3, i4, i5, i6, i7, i8⟩ := I'
  have h20 := i2.1
  have e1 : (nI q).toNatClampNeg = q := nI_clamp (by omega)
  unfold wpX_strengthen
  refine cq_isRuleE hq h20 (br_t rfl (H _ cu st I)) (fun hz => br_f (by decide) (pk_lt v 1 (fun z => absurd z (by omega)) (fun z0 => pk_le v 100 (fun z => ⟨pk_in q 20 (by omega), nm_e ⟨pk_in q 20 (by omega), nm_r (e' := cq_a (cq_u st q v)) (by rw [e1]; exact cq_upd st q v) (H _ 0 _ ⟨i1, ⟨h20, fun r hr => ?_⟩, i3, i4, i5, i6, by omega, fun z => absurd rfl z⟩)⟩⟩) (fun z => absurd z (by omega)))))
  have hR := i2.2 r hr
  by_cases e : r = q
  · obtain ⟨r1, r2, r3, r4, r5⟩ := hR
    unfold cq_R
    rw [e, cq_us, ← e]
    exact ⟨r1, hv1, hv, r4, r5⟩
  · exact cq_R_c hR rfl (cq_un e) rfl (fun _ _ => rfl) (fun _ _ => rfl)
/-! the rows of a new rule -/
theorem cq_rule124 {post : Int32 → St1 → Prop} {pt0 ng0 : Nat → Nat} (hds : ds ≤ 3) (hcnt : cnt < 20) (hdn : ∀ i, dn i ≤ 1)
    (H : ∀ x pt ng, (∀ j, j < 3 * cnt → pt j = pt0 j ∧ ng j = ng0 j) → (∀ j, j < ds → pt (3 * cnt + j) = dp j ∧ ng (3 * cnt + j) = dn j) → (∀ i, ng i ≤ 1) → post x (cq_S 0 (cnt + 1) 0 hd st sz pt ng dp dn sn vl og se wt K)) :
    ∀ f k pt ng, k ≤ ds → ds - k < f → (∀ j, j < 3 * cnt → pt j = pt0 j ∧ ng j = ng0 j) → (∀ j, j < k → pt (3 * cnt + j) = dp j ∧ ng (3 * cnt + j) = dn j) → (∀ i, ng i ≤ 1) →
      wX_rule_124 post (nI ds) (nI cnt) (-1) (nI cu) f (nI k) (cq_a hd) (cq_a st) (cq_a sz) (cq_a pt) (cq_a ng) (cq_a dp) (cq_a dn) (cq_a sn) (cq_a vl) (cq_a og) (cq_a se) (cq_a wt) K := by
  intro f
  induction f with
  | zero => intro k pt ng _ z; omega
  | succ f ih =>
    intro k pt ng hk hf h1 h2 h3
    have e3 : (3 : Int32) * nI cnt + nI k = nI (3 * cnt + k) := cq_ix cnt k
    have e4 : (3 * nI cnt + nI k).toNatClampNeg = 3 * cnt + k := by rw [e3]; exact nI_clamp (by omega)
    have e5 : (nI k).toNatClampNeg = k := nI_clamp (by omega)
    refine pk_le ds k (fun z => nm_r (nI_1 cnt) (H _ pt ng h1 (fun j hj => h2 j (by omega)) h3)) (fun z => ⟨pk_in k 3 (by omega), pk_in (3 * cnt + k) 60 (by omega) e3, nm_r (e' := cq_a (cq_u pt (3 * cnt + k) (dp k))) ?_ ⟨pk_in k 3 (by omega), pk_in (3 * cnt + k) 60 (by omega) e3, nm_r (e' := cq_a (cq_u ng (3 * cnt + k) (dn k))) ?_ (nm_r (nI_1 k) (ih (k + 1) _ _ (by omega) (by omega) (fun j hj => ?_) (fun j hj => ?_) (cq_ub h3 (hdn k))))⟩⟩)
    · rw [e4, e5]
      exact cq_upd pt _ (dp k)
    · rw [e4, e5]
      exact (congrArg (upd (cq_a ng) (3 * cnt + k)) (cq_nb (hdn k))).trans (cq_upd ng _ (dn k))
    · rw [cq_un (by omega), cq_un (by omega)]
      exact h1 j hj
    · by_cases e : j = k
      · rw [e, cq_us, cq_us]
        exact ⟨rfl, rfl⟩
      · rw [cq_un (by omega), cq_un (by omega)]
        exact h2 j (by omega)
theorem cq_sr (x : Nat) (h : x < 2 ^ 31) : nI x >>> ((2 : Int32) &&& 31) = nI (x / 4) := pk_shrN h _ 2 (by decide)
theorem cq_rule25 {post : Int32 → St1 → Prop} {h s : Nat} (I : cq_I ds cnt cu hd st sz pt ng dp dn sn vl) (hh : h < 16) (hs1 : 1 ≤ s) (hs : s ≤ 100)
    (H : ∀ x ds cnt cu hd st sz pt ng, cq_I ds cnt cu hd st sz pt ng dp dn sn vl → post x (cq_S ds cnt cu hd st sz pt ng dp dn sn vl og se wt K)) :
    ∀ f k, k ≤ ds → ds - k < f → (∀ j, j < k → dp j / 4 ≤ h / 4 ∧ (dn j ≠ 0 → dp j / 4 < h / 4)) → wX_rule_25 post (nI h) (nI s) (nI ds) (nI cnt) (-1) (nI cu) (cq_a hd) (cq_a st) (cq_a sz) (cq_a pt) (cq_a ng) (cq_a dp) (cq_a dn) (cq_a sn) (cq_a vl) (cq_a og) (cq_a se) (cq_a wt) K f (nI k) := by
  have I' := I
  obtain ⟨i1, i2, i3, i4, i5, i6, i7, i8⟩ := I'
  have h20 := i2.1
  intro f
  induction f with
  | zero => intro k _ z; omega
  | succ f ih =>
    intro k hk hf hJ
    have e5 : (nI k).toNatClampNeg = k := nI_clamp (by omega)
    have e6 : (nI cnt).toNatClampNeg = cnt := nI_clamp (by omega)
    have b1 := i5 k
    have b2 := i4 k
    refine pk_le ds k (fun z => pk_eq cnt 20 (fun _ => H _ _ _ _ _ _ _ _ _ I) (fun z0 => ⟨pk_in cnt 20 (by omega), nm_r (e' := cq_a (cq_u hd cnt h)) (by rw [e6]; exact cq_upd hd cnt h) ⟨pk_in cnt 20 (by omega), nm_r (e' := cq_a (cq_u st cnt s)) (by rw [e6]; exact cq_upd st cnt s) ⟨pk_in cnt 20 (by omega), nm_r (e' := cq_a (cq_u sz cnt ds)) (by rw [e6]; exact cq_upd sz cnt ds) ⟨ds + 1, ?_⟩⟩⟩⟩)) (fun z => ⟨pk_in k 3 (by omega), ?_⟩)
    · refine cq_rule124 (pt0 := pt) (ng0 := ng) i1 (by omega) i4 (fun x pt' ng' p1 p2 p3 => H _ _ _ _ _ _ _ _ _ ⟨by omega, ⟨by omega, fun r hr => ?_⟩, p3, i4, i5, i6, by omega, fun z => absurd rfl z⟩) (ds + 1) 0 pt ng (by omega) (by omega) (fun _ _ => ⟨rfl, rfl⟩) (fun j hj => absurd hj (by omega)) i3
      by_cases e : r = cnt
      · subst e
        unfold cq_R
        rw [cq_us, cq_us, cq_us]
        refine ⟨hh, hs1, hs, i1, fun j hj => ?_⟩
        rw [(p2 j hj).1, (p2 j hj).2]
        exact ⟨i5 j, hJ j (by omega)⟩
      · exact cq_R_c (i2.2 r (by omega)) (cq_un e) (cq_un e) (cq_un e) (fun j hj => (p1 _ (by omega)).1) (fun j hj => (p1 _ (by omega)).2)
    · rw [e5, cq_sr h (by omega)]
      have hstep : (dp k / 4 ≤ h / 4 ∧ (dn k ≠ 0 → dp k / 4 < h / 4)) → ∀ j, j < k + 1 → dp j / 4 ≤ h / 4 ∧ (dn j ≠ 0 → dp j / 4 < h / 4) := by
        intro hh' j hj
        by_cases e : j = k
        · rw [e]; exact hh'
        · exact hJ j (by omega)
      refine pk_eq (dn k) 0 (fun z0 => ⟨pk_in k 3 (by omega), ?_⟩) (fun z0 => ⟨pk_in k 3 (by omega), ?_⟩)
      · rw [e5, cq_c, cq_sr (dp k) (by omega)]
        exact pk_le (dp k / 4) (h / 4) (fun z1 => nm_r (nI_1 k) (ih (k + 1) (by omega) (by omega) (hstep ⟨z1, fun z2 => absurd z0 z2⟩))) (fun _ => H _ _ _ _ _ _ _ _ _ I)
      · rw [e5, cq_c, cq_sr (dp k) (by omega)]
        by_cases hz : h / 4 = 0
        · rw [hz]
          exact br_f (fun z1 => absurd z1 (by rcases (show dp k / 4 = 0 ∨ dp k / 4 = 1 ∨ dp k / 4 = 2 ∨ dp k / 4 = 3 by omega) with e | e | e | e <;> rw [e] <;> decide)) (H _ _ _ _ _ _ _ _ _ I)
        · exact pk_le (dp k / 4) (h / 4 - 1) (fun z1 => nm_r (nI_1 k) (ih (k + 1) (by omega) (by omega) (hstep ⟨by omega, fun _ => by omega⟩))) (fun _ => H _ _ _ _ _ _ _ _ _ I) rfl (pk_sub (b := 1) (by omega))
theorem cq_rule {post : Int32 → St1 → Prop} {h s : Nat} (I : cq_I ds cnt cu hd st sz pt ng dp dn sn vl) (hh : h < 16) (hs1 : 1 ≤ s) (hs : s ≤ 100)
    (H : ∀ x ds cnt cu hd st sz pt ng, cq_I ds cnt cu hd st sz pt ng dp dn sn vl → post x (cq_S ds cnt cu hd st sz pt ng dp dn sn vl og se wt K)) : wpX_rule post (cq_S ds cnt cu hd st sz pt ng dp dn sn vl og se wt K) (nI h) (nI s) := by
  unfold wpX_rule
  exact cq_isClaim hh (br_f (by decide) (pk_lt s 1 (fun z => absurd z (by omega)) (fun _ => pk_le s 100 (fun _ => ⟨ds + 1, cq_rule25 I hh hs1 hs H (ds + 1) 0 (by omega) (by omega) (fun j hj => absurd hj (by omega))⟩) (fun z => absurd z (by omega)))))
theorem cq_rem66 {post : Int32 → St1 → Prop} {J : Int32 → (Nat → Int32) → (Nat → Int32) → (Nat → Int32) → (Nat → Int32) → (Nat → Int32) → (Nat → Int32) → (Nat → Int32) → (Nat → Int32) → (Nat → Int32) → (Nat → Int32) → (Nat → Int32) → (Nat → Int32) → (Nat → Int32) → Prop} {i : Nat} {pt0 ng0 : Nat → Nat} (hi : i + 1 < 20)
    (H : ∀ pt ng, (∀ j, j < 3 → pt (3 * i + j) = pt0 (3 * (i + 1) + j) ∧ ng (3 * i + j) = ng0 (3 * (i + 1) + j)) → (∀ j, (j < 3 * i ∨ 3 * i + 3 ≤ j) → pt j = pt0 j ∧ ng j = ng0 j) → (∀ j, ng j ≤ 1) → J (nI (i + 2)) (cq_a hd) (cq_a st) (cq_a sz) (cq_a pt) (cq_a ng) (cq_a dp) (cq_a dn) (cq_a sn) (cq_a vl) (cq_a og) (cq_a se) (cq_a wt) K) :
    ∀ f k pt ng, k ≤ 3 → 3 - k < f → (∀ j, j < k → pt (3 * i + j) = pt0 (3 * (i + 1) + j) ∧ ng (3 * i + j) = ng0 (3 * (i + 1) + j)) → (∀ j, (j < 3 * i ∨ 3 * i + 3 ≤ j) → pt j = pt0 j ∧ ng j = ng0 j) → (∀ j, ng j ≤ 1) →
      wX_remove_66 post J (nI (i + 1)) (nI ds) (nI cnt) (-1) (nI cu) f (nI k) (cq_a hd) (cq_a st) (cq_a sz) (cq_a pt) (cq_a ng) (cq_a dp) (cq_a dn) (cq_a sn) (cq_a vl) (cq_a og) (cq_a se) (cq_a wt) K := by
  intro f
  induction f with
  | zero => intro k pt ng _ z; omega
  | succ f ih =>
    intro k pt ng hk hf h1 h2 h3
    have e3 : (3 : Int32) * nI (i + 1) + nI k = nI (3 * (i + 1) + k) := cq_ix (i + 1) k
    have e4 : (3 : Int32) * (nI (i + 1) - 1) + nI k = nI (3 * i + k) := by rw [nI_pred]; exact cq_ix i k
    have c3 : ((3 : Int32) * nI (i + 1) + nI k).toNatClampNeg = 3 * (i + 1) + k := by rw [e3]; exact nI_clamp (by omega)
    have c4 : ((3 : Int32) * (nI (i + 1) - 1) + nI k).toNatClampNeg = 3 * i + k := by rw [e4]; exact nI_clamp (by omega)
    refine pk_le 3 k (fun z => nm_r (nI_1 (i + 1)) (H pt ng (fun j hj => h1 j (by omega)) h2 h3)) (fun z => ⟨pk_in (3 * (i + 1) + k) 60 (by omega) e3, pk_in (3 * i + k) 60 (by omega) e4, nm_r (e' := cq_a (cq_u pt (3 * i + k) (pt (3 * (i + 1) + k)))) ?_ ⟨pk_in (3 * (i + 1) + k) 60 (by omega) e3, pk_in (3 * i + k) 60 (by omega) e4, nm_r (e' := cq_a (cq_u ng (3 * i + k) (ng (3 * (i + 1) + k)))) ?_ (nm_r (nI_1 k) (ih (k + 1) _ _ (by omega) (by omega) (fun j hj => ?_) (fun j hj => ?_) (cq_ub h3 (h3 _))))⟩⟩)
    · rw [c3, c4]
      exact cq_upd pt _ _
    · rw [c3, c4]
      exact (congrArg (upd (cq_a ng) (3 * i + k)) (cq_nb (h3 _))).trans (cq_upd ng _ _)
    · by_cases e : j = k
      · rw [e, cq_us, cq_us]
        exact h2 _ (Or.inr (by omega))
      · rw [cq_un (by omega), cq_un (by omega)]
        exact h1 j (by omega)
    · rw [cq_un (by omega), cq_un (by omega)]
      exact h2 j hj
theorem cq_rem14 {post : Int32 → St1 → Prop} (h20 : cnt ≤ 20)
    (H : ∀ x hd st sz pt ng, (∀ r, r < cnt → cq_R hd st sz pt ng r) → (∀ j, ng j ≤ 1) → post x (cq_S ds (cnt - 1) 0 hd st sz pt ng dp dn sn vl og se wt K)) :
    ∀ f i hd st sz pt ng, i + 1 ≤ cnt → cnt - (i + 1) < f → (∀ r, r < cnt → cq_R hd st sz pt ng r) → (∀ j, ng j ≤ 1) → wX_remove_14 post (nI ds) (nI cnt) (-1) (nI cu) f (nI (i + 1)) (cq_a hd) (cq_a st) (cq_a sz) (cq_a pt) (cq_a ng) (cq_a dp) (cq_a dn) (cq_a sn) (cq_a vl) (cq_a og) (cq_a se) (cq_a wt) K := by
  intro f
  induction f with
  | zero => intro i hd st sz pt ng _ z; omega
  | succ f ih =>
    intro i hd st sz pt ng hi hf hR hn
    have e1 : (nI (i + 1)).toNatClampNeg = i + 1 := nI_clamp (by omega)
    have e2 : nI (i + 1) - 1 = nI i := nI_pred i
    have e3 : (nI (i + 1) - 1).toNatClampNeg = i := by rw [e2]; exact nI_clamp (by omega)
    refine pk_le cnt (i + 1) (fun z => nm_r (e' := nI (cnt - 1)) (pk_sub (b := 1) (by omega)) (H _ hd st sz pt ng hR hn)) (fun z => ⟨pk_in (i + 1) 20 (by omega), pk_in i 20 (by omega) e2, nm_r (e' := cq_a (cq_u hd i (hd (i + 1)))) ?_ ⟨pk_in (i + 1) 20 (by omega), pk_in i 20 (by omega) e2, nm_r (e' := cq_a (cq_u st i (st (i + 1)))) ?_ ⟨pk_in (i + 1) 20 (by omega), pk_in i 20 (by omega) e2, nm_r (e' := cq_a (cq_u sz i (sz (i + 1)))) ?_ ⟨4, ?_⟩⟩⟩⟩)
    · rw [e1, e3]; exact cq_upd hd _ _
    · rw [e1, e3]; exact cq_upd st _ _
    · rw [e1, e3]; exact cq_upd sz _ _
    · refine cq_rem66 (pt0 := pt) (ng0 := ng) (by omega) (fun pt' ng' p1 p2 p3 => ih (i + 1) _ _ _ pt' ng' (by omega) (by omega) (fun r hr => ?_) p3) 4 0 pt ng (by omega) (by omega) (fun j hj => absurd hj (by omega)) (fun j _ => ⟨rfl, rfl⟩) hn
      by_cases e : r = i
      · subst e
        exact cq_R_c (hR (r + 1) (by omega)) cq_us cq_us cq_us (fun j hj => (p1 j hj).1) (fun j hj => (p1 j hj).2)
      · exact cq_R_c (hR r hr) (cq_un e) (cq_un e) (cq_un e) (fun j hj => (p2 _ (by omega)).1) (fun j hj => (p2 _ (by omega)).2)
theorem cq_remove {post : Int32 → St1 → Prop} {q : Nat} (I : cq_I ds cnt cu hd st sz pt ng dp dn sn vl) (hq : q < 32)
    (H : ∀ x cnt cu hd st sz pt ng, cq_I ds cnt cu hd st sz pt ng dp dn sn vl → post x (cq_S ds cnt cu hd st sz pt ng dp dn sn vl og se wt K)) : wpX_remove post (cq_S ds cnt cu hd st sz pt ng dp dn sn vl og se wt K) (nI q) := by
  have I' := I
  obtain ⟨i1, i2, i3, i4, i5, i6, i7, i8⟩ := I'
  have h20 := i2.1
  unfold wpX_remove
  refine cq_isRuleE hq h20 (br_t rfl (H _ cnt cu hd st sz pt ng I)) (fun hz => br_f (by decide) (nm_r (nI_1 q) ⟨cnt + 1, ?_⟩))
  exact cq_rem14 h20 (fun x hd' st' sz' pt' ng' hR hn => H x _ 0 _ _ _ _ _ ⟨i1, ⟨by omega, fun r hr => hR r (by omega)⟩, hn, i4, i5, i6, by omega, fun z => absurd rfl z⟩) (cnt + 1) q hd st sz pt ng (by omega) (by omega) i2.2 i3
theorem cq_turn {post : St1 → Prop} (I : cq_I ds cnt cu hd st sz pt ng dp dn sn vl) (p1 p2 : Int32)
    (H : ∀ ds cnt cu hd st sz pt ng dp dn sn, cq_I ds cnt cu hd st sz pt ng dp dn sn vl → post (cq_S ds cnt cu hd st sz pt ng dp dn sn vl og se wt K)) : wpL_turn post (cq_S ds cnt cu hd st sz pt ng dp dn sn vl og se wt K) p1 p2 := by
  obtain ⟨j1, hj1, ej1⟩ := pk_andE p2 (m := 15) 4 (by decide)
  obtain ⟨j2, hj2, ej2⟩ := pk_andE (p2 >>> ((4 : Int32) &&& 31)) (m := 127) 7 (by decide)
  obtain ⟨j3, hj3, ej3⟩ := pk_andE p2 (m := 7) 3 (by decide)
  obtain ⟨j4, hj4, ej4⟩ := pk_andE (p2 >>> ((4 : Int32) &&& 31)) (m := 15) 4 (by decide)
  obtain ⟨j5, hj5, ej5⟩ := pk_andE (p1 >>> ((4 : Int32) &&& 31)) (m := 31) 5 (by decide)
  obtain ⟨j6, hj6, ej6⟩ := pk_andE p2 (m := 127) 7 (by decide)
  obtain ⟨j7, hj7, ej7⟩ := pk_andE p2 (m := 31) 5 (by decide)
  have r1 : (1 : Int32) + (nI j6 - nI j6 / 100 * 100) = nI (1 + j6 % 100) := by
    rw [show nI j6 - nI j6 / 100 * 100 = nI (j6 % 100) from pk_rem (d := 100) (by omega) (by decide) (by decide)]
    exact nI_add 1 _
  have r2 : nI j2 - nI j2 / 101 * 101 = nI (j2 % 101) := pk_rem (d := 101) (by omega) (by decide) (by decide)
  have r3 : (1 : Int32) + (nI j2 - nI j2 / 100 * 100) = nI (1 + j2 % 100) := by
    rw [show nI j2 - nI j2 / 100 * 100 = nI (j2 % 100) from pk_rem (d := 100) (by omega) (by decide) (by decide)]
    exact nI_add 1 _
  have r4 : (8 : Int32) + nI j3 = nI (8 + j3) := nI_add 8 j3
  have r5 : (100 : Int32) - nI j4 = nI (100 - j4) := pk_sub (a := 100) (by omega)
  unfold wpL_turn
  dsimp only
  rw [ej1, ej2, ej3, ej4, ej5, ej6, ej7, r1, r2, r3, r4, r5]
  refine nm_e (br_c (fun _ => br_c (fun _ => br_c (fun _ => br_c (fun _ => ?_) (fun _ => br_c (fun _ => br_c (fun _ => ⟨by decide, ?_⟩) (fun _ => ?_)) (fun _ => ⟨by decide, ?_⟩))) (fun _ => ?_)) (fun _ => ⟨by decide, ?_⟩)) (fun _ => br_c (fun _ => ?_) (fun _ => ?_)))
  · exact cq_clear I (fun x ds' h => H ds' cnt cu hd st sz pt ng dp dn sn h)
  · exact cq_strengthen I (by omega) (by omega) (by omega) (fun x cu' st' h => H ds cnt cu' hd st' sz pt ng dp dn sn h)
  · exact cq_remove I (by omega) (fun x cnt' cu' hd' st' sz' pt' ng' h => H ds cnt' cu' hd' st' sz' pt' ng' dp dn sn h)
  · exact cq_observe I (by omega) (by omega) (fun x cu' sn' h => H ds cnt cu' hd st sz pt ng dp dn sn' h)
  · exact cq_rule I (by omega) (by omega) (by omega) (fun x ds' cnt' cu' hd' st' sz' pt' ng' h => H ds' cnt' cu' hd' st' sz' pt' ng' dp dn sn h)
  · exact cq_rule I (by omega) (by omega) (by omega) (fun x ds' cnt' cu' hd' st' sz' pt' ng' h => H ds' cnt' cu' hd' st' sz' pt' ng' dp dn sn h)
  · unfold wL_turn_29
    exact cq_premise I (by omega) _ (fun x ds' dp' dn' h => H ds' cnt cu hd st sz pt ng dp' dn' sn h)
  · unfold wL_turn_29
    exact cq_premise I (by omega) _ (fun x ds' dp' dn' h => H ds' cnt cu hd st sz pt ng dp' dn' sn h)
end TURN
end
section
/-! ===== the law ===== -/
theorem cq_cell {post : Int32 → Prop} {L : Nat} {xs : Nat → Int32} {k : Nat} {x : Int32} (hL : L ≤ 260) (hk : k ≤ 262) (hx : x = nI k) (H : ∀ v, post v) : wpL_cell post L xs () x := by
  subst hx
  exact pk_le L k (fun _ => H 0) (fun z => ⟨pk_in k L z, H _⟩)
theorem cq_law10 {L : Nat} {xs : Nat → Int32} {kc ks : Nat} {K : Nat → Int32} (hL : L ≤ 260) :
    ∀ f k ds cnt cu hd st sz pt ng dp dn sn vl og se wt, k ≤ L + 1 → L - k < f → cq_I ds cnt cu hd st sz pt ng dp dn sn vl → wL_law_10 (fun r => r = 1) L xs kc ks f (nI k) (nI ds) (nI cnt) (-1) (nI cu) (cq_a hd) (cq_a st) (cq_a sz) (cq_a pt) (cq_a ng) (cq_a dp) (cq_a dn) (cq_a sn) (cq_a vl) (cq_a og) (cq_a se) (cq_a wt) K := by
  intro f
  induction f with
  | zero => intro k ds cnt cu hd st sz pt ng dp dn sn vl og se wt _ z; omega
  | succ f ih =>
    intro k ds cnt cu hd st sz pt ng dp dn sn vl og se wt hk hf I
    refine pk_le L k (fun _ => rfl) (fun z => ?_)
    refine cq_cell hL (by omega) rfl (fun v => cq_cell hL (show k + 1 ≤ 262 by omega) (nI_1 k) (fun w => cq_turn I v w (fun ds' cnt' cu' hd' st' sz' pt' ng' dp' dn' sn' I' => ?_)))
    obtain ⟨i1, i2, i3, i4, i5, i6, i7, i8⟩ := I'
    refine cq_holds i2 i3 i6 i7 i8 (fun cu'' vl'' og'' se'' wt'' h1 h2 => br_f (by decide) (nm_r (nI_add k 2) ?_))
    exact ih (k + 2) _ _ _ _ _ _ _ _ _ _ _ _ _ _ _ (by omega) (by omega) ⟨i1, i2, i3, i4, i5, i6, h1, h2⟩
theorem i_vc (xs : Nat → Int32) (L : Nat) (hL : L ≤ 260) : wpL_law (fun r => r = 1) L xs := by
  refine ⟨13, 286, by decide, by decide, ?_⟩
  refine ⟨by decide, by decide, by decide, by decide, by decide, by decide, by decide, by decide, by decide, by decide, by decide, by decide, by decide, by decide, by decide, by decide, by decide, by decide, by decide, by decide, by decide, by decide, by decide, by decide, by decide, by decide, ?_⟩
  refine ⟨L + 1, ?_⟩
  exact cq_law10 hL (L + 1) 0 0 0 0 (fun _ => 0) (fun _ => 0) (fun _ => 0) (fun _ => 0) (fun _ => 0) (fun _ => 0) (fun _ => 0) (fun _ => 0) (fun _ => 0) (fun _ => 0) (fun _ => 0) (fun _ => 0) (by omega) (by omega)
    ⟨by decide, ⟨by decide, fun r hr => absurd hr (by omega)⟩, fun _ => Nat.zero_le _, fun _ => Nat.zero_le _, fun _ => Nat.zero_lt_succ _, fun _ _ => Nat.zero_le _, by decide, fun z => absurd rfl z⟩
end
