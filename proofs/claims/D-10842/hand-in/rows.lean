section
/-- the code of the digits r 0 .. r (n - 1) -/
def wt_cd (r : Nat → Nat) : Nat → Nat
  | 0 => 0
  | n + 1 => 10 * wt_cd r n + r n
/-- their sum -/
def wt_sum (r : Nat → Nat) : Nat → Nat
  | 0 => 0
  | n + 1 => wt_sum r n + r n
/-- four digits -/
def wt_dg (a b d e : Nat) : Nat → Nat
  | 0 => a
  | 1 => b
  | 2 => d
  | 3 => e
  | _ => 0
/-- a code is a shape -/
def wt_ok (r : Nat → Nat) (n : Nat) : Prop := wt_sum r n ≤ 9 ∧ ∀ i, i + 1 < n → r (i + 1) ≤ r i
theorem wt_p10 {k m : Nat} (h : k ≤ m) : 10 ^ k ≤ 10 ^ m := Nat.pow_le_pow_right (by omega) h
theorem wt_cd_lt {r : Nat → Nat} {n : Nat} (hr : ∀ i, i < n → r i ≤ 9) : wt_cd r n < 10 ^ n := by
  induction n with
  | zero => exact Nat.one_pos
  | succ n ih =>
    have h1 := ih (fun i hi => hr i (by omega))
    have h2 := hr n (by omega)
    show 10 * wt_cd r n + r n < 10 ^ (n + 1)
    rw [Nat.pow_succ]
    omega
theorem wt_cd_big {r : Nat → Nat} {n : Nat} (hn : n ≤ 4) (hr : ∀ i, i < n → r i ≤ 9) : wt_cd r n < 10000 := by
  have h1 := wt_cd_lt hr
  have h2 : 10 ^ n ≤ 10 ^ 4 := wt_p10 hn
  omega
theorem wt_cd_dig {r : Nat → Nat} {n i : Nat} (hr : ∀ i, i < n → r i ≤ 9) (hi : i < n) : wt_cd r n / 10 ^ (n - 1 - i) % 10 = r i := by
  induction n with
  | zero => omega
  | succ n ih =>
    have h2 := hr n (by omega)
    show (10 * wt_cd r n + r n) / 10 ^ (n + 1 - 1 - i) % 10 = r i
    by_cases e : i = n
    · subst e
      rw [show i + 1 - 1 - i = 0 by omega, Nat.pow_zero, Nat.div_one]
      omega
    · rw [show n + 1 - 1 - i = (n - 1 - i) + 1 by omega, Nat.pow_succ, Nat.mul_comm (10 ^ (n - 1 - i)) 10, ← Nat.div_div_eq_div_mul, show (10 * wt_cd r n + r n) / 10 = wt_cd r n by omega]
      exact ih (fun j hj => hr j (by omega)) (by omega)
theorem wt_power {post : Int32 → Prop} {u : St0} {k : Nat} (hk : k ≤ 9) (H : post (nI (10 ^ k))) : wpX_power post u (nI k) :=
  pk_loop (σ := Unit) (fun n i _ => wX_power_4 post (nI k) n (nI (10 ^ i)) (nI i)) (fun _ _ => True) k 0 () (Nat.zero_le k) trivial
    (fun n _ _ => pk_le k k (fun _ => H) (fun z => absurd z (by omega)))
    (fun n i _ hi _ hw => pk_le k i (fun z => absurd z (by omega)) (fun _ => nm_r (e' := nI (10 ^ (i + 1))) (by rw [Nat.pow_succ]; exact pk_mul _ _) (nm_r (nI_1 i) (hw () trivial))))
theorem wt_digit {post : Int32 → Prop} {u : St2} {n C i : Nat} (hu : u.1 = nI n) (hn : n ≤ 4) (hi : i < n) (hC : C < 2 ^ 31) (H : post (nI (C / 10 ^ (n - 1 - i) % 10))) : wpX_digit post u (nI C) (nI i) := by
  obtain ⟨f, fl, fx, fb, a1, a2, a3, a4, a5, a6, a7, a8, a9, a10, a11, a12⟩ := u
  have hu' : f = nI n := hu
  subst hu'
  unfold wpX_digit
  dsimp only
  have e : (nI n - 1) - nI i = nI (n - 1 - i) := by
    rw [show (1 : Int32) = nI 1 from rfl, pk_sub (by omega), pk_sub (by omega)]
  rw [e]
  have hp : 10 ^ (n - 1 - i) ≤ 10 ^ 3 := wt_p10 (by omega)
  have hp0 : 0 < 10 ^ (n - 1 - i) := Nat.pow_pos (by omega)
  refine wt_power (by omega) ⟨nI_ne0 hp0 (by omega), by decide, ?_⟩
  rw [pk_div hC hp0 (by omega), show (10 : Int32) = nI 10 from rfl, pk_rem (Nat.lt_of_le_of_lt (Nat.div_le_self _ _) hC) (by decide) (by decide)]
  exact H
theorem wt_dgt {post : Int32 → Prop} {u : St2} {n i : Nat} {r : Nat → Nat} {p : Int32} (hu : u.1 = nI n) (hn : n ≤ 4) (hr : ∀ i, i < n → r i ≤ 9) (hi : i < n) (hp : p = nI i) (H : post (nI (r i))) : wpX_digit post u (nI (wt_cd r n)) p := by
  have hc := wt_cd_big hn hr
  rw [hp]
  refine wt_digit hu hn hi (by omega) ?_
  rw [wt_cd_dig hr hi]
  exact H
theorem wt_sizeOf {post : Int32 → Prop} {u : St2} {n : Nat} {r : Nat → Nat} (hu : u.1 = nI n) (hn : n ≤ 4) (hr : ∀ i, i < n → r i ≤ 9) (H : post (nI (wt_sum r n))) : wpX_sizeOf post u (nI (wt_cd r n)) := by
  obtain ⟨f, fl, fx, fb, a1, a2, a3, a4, a5, a6, a7, a8, a9, a10, a11, a12⟩ := u
  have hu' : f = nI n := hu
  subst hu'
  exact pk_loop (σ := Unit) (fun k i _ => wX_sizeOf_4 post (nI (wt_cd r n)) (nI n) fl fx fb a1 a2 a3 a4 a5 a6 a7 a8 a9 a10 a11 a12 k (nI (wt_sum r i)) (nI i)) (fun _ _ => True) n 0 () (Nat.zero_le n) trivial
    (fun k _ _ => pk_le n n (fun _ => H) (fun z => absurd z (by omega)))
    (fun k i _ hi _ hw => pk_le n i (fun z => absurd z (by omega)) (fun _ => wt_dgt rfl hn hr hi rfl (nm_r (nI_add _ _) (nm_r (nI_1 i) (hw () trivial)))))
theorem wt_sum_le {r : Nat → Nat} {n : Nat} (hr : ∀ i, i < n → r i ≤ 9) : wt_sum r n ≤ 9 * n := by
  induction n with
  | zero => exact Nat.le_refl 0
  | succ n ih =>
    have h1 := ih (fun i hi => hr i (by omega))
    have h2 := hr n (by omega)
    show wt_sum r n + r n ≤ 9 * (n + 1)
    omega
theorem wt_isShape {post : Int32 → Prop} {u : St2} {n : Nat} {r : Nat → Nat} (hu : u.1 = nI n) (hn : n ≤ 4) (h1 : 1 ≤ n) (hr : ∀ i, i < n → r i ≤ 9) (H1 : wt_ok r n → post 1) (H0 : ¬ wt_ok r n → post 0) : wpX_isShape post u (nI (wt_cd r n)) := by
  obtain ⟨f, fl, fx, fb, a1, a2, a3, a4, a5, a6, a7, a8, a9, a10, a11, a12⟩ := u
  have hu' : f = nI n := hu
  subst hu'
  have hc := wt_cd_lt hr
  have h4 : 10 ^ n ≤ 10 ^ 4 := wt_p10 hn
  have hs := wt_sum_le hr
  refine br_f (nI_pos (by omega)) (wt_power (by omega) (pk_le (10 ^ n) (wt_cd r n) (fun z => absurd z (by omega)) (fun _ => wt_sizeOf rfl hn hr (pk_le (wt_sum r n) 9 (fun z => ?_) (fun z => H0 (fun t => absurd t.1 (by omega)))))))
  refine pk_loop (σ := Unit) (fun k i _ => wX_isShape_29 post (nI (wt_cd r n)) (nI n) fl fx fb a1 a2 a3 a4 a5 a6 a7 a8 a9 a10 a11 a12 k (nI i)) (fun i _ => 1 ≤ i ∧ ∀ j, j + 1 < i → r (j + 1) ≤ r j) n 1 () h1 ⟨Nat.le_refl 1, fun j hj => absurd hj (by omega)⟩
    (fun k _ h => pk_le n n (fun _ => H1 ⟨z, h.2⟩) (fun z => absurd z (by omega)))
    (fun k i _ hi h hw => pk_le n i (fun z => absurd z (by omega)) (fun _ => wt_dgt rfl hn hr hi rfl ?_))
  have h5 := h.1
  have e1 : nI i - 1 = nI (i - 1) := by
    rw [show (1 : Int32) = nI 1 from rfl, pk_sub (by omega)]
  have h6 := hr i hi
  have h7 := hr (i - 1) (by omega)
  refine wt_dgt rfl hn hr (show i - 1 < n by omega) e1 (pk_le (r i) (r (i - 1)) (fun g => nm_r (nI_1 i) (hw () ⟨by omega, fun j hj => ?_⟩)) (fun g => H0 (fun t => ?_)))
  · by_cases e : j + 1 = i
    · rw [show j = i - 1 by omega, show i - 1 + 1 = i by omega]
      exact g
    · exact h.2 j (by omega)
  · have t2 := t.2 (i - 1) (by omega)
    rw [show i - 1 + 1 = i by omega] at t2
    omega
theorem wt_isShape_out {post : Int32 → Prop} {u : St2} {n : Nat} {p : Int32} (hu : u.1 = nI n) (hn : n ≤ 4) (hp : p < 0 ∨ nI (10 ^ n) ≤ p) (H0 : post 0) : wpX_isShape post u p := by
  obtain ⟨f, fl, fx, fb, a1, a2, a3, a4, a5, a6, a7, a8, a9, a10, a11, a12⟩ := u
  have hu' : f = nI n := hu
  subst hu'
  by_cases h : p < 0
  · exact br_t h H0
  · rcases hp with g | g
    · exact absurd g h
    · exact br_f h (wt_power (by omega) (br_t g H0))
/-- at this code the answer is: no shape -/
def wt_bad (n : Nat) (p : Int32) : Prop := ∀ (u : St2), u.1 = nI n → ∀ post : Int32 → Prop, post 0 → wpX_isShape post u p
/-- a shape's picture: rows that don't grow, none behind n, at most nine boxes -/
def wt_G (n : Nat) (r : Nat → Nat) : Prop := 2 ≤ n ∧ n ≤ 4 ∧ (∀ i, n ≤ i → r i = 0) ∧ (∀ i, r (i + 1) ≤ r i) ∧ wt_sum r n ≤ 9
theorem wt_sum_ge {r : Nat → Nat} {n i : Nat} (hi : i < n) : r i ≤ wt_sum r n := by
  induction n with
  | zero => omega
  | succ n ih =>
    show r i ≤ wt_sum r n + r n
    by_cases e : i = n
    · subst e
      omega
    · have h := ih (by omega)
      omega
theorem wt_G9 {n : Nat} {r : Nat → Nat} (g : wt_G n r) (i : Nat) : r i ≤ 9 := by
  obtain ⟨h2, h4, hz, hm, hs⟩ := g
  by_cases hi : i < n
  · have h := wt_sum_ge (r := r) hi
    omega
  · rw [hz i (by omega)]
    omega
theorem wt_Gshape {post : Int32 → Prop} {u : St2} {n : Nat} {r : Nat → Nat} (g : wt_G n r) (hu : u.1 = nI n) (H : post 1) : wpX_isShape post u (nI (wt_cd r n)) := by
  have h2 := g.1
  exact wt_isShape hu g.2.1 (by omega) (fun i _ => wt_G9 g i) (fun _ => H) (fun t => absurd ⟨g.2.2.2.2, fun i _ => g.2.2.2.1 i⟩ t)
end
section
theorem wt_size_bad {post : Int32 → Prop} {u : St2} {n : Nat} {p : Int32} (b : wt_bad n p) (hu : u.1 = nI n) (H : post (-1)) : wpX_size post u p := by
  obtain ⟨f, fl, fx, fb, a1, a2, a3, a4, a5, a6, a7, a8, a9, a10, a11, a12⟩ := u
  unfold wpX_size
  dsimp only
  exact b _ hu _ (br_t rfl H)
theorem wt_size {post : Int32 → Prop} {u : St2} {n : Nat} {r : Nat → Nat} (g : wt_G n r) (hu : u.1 = nI n) (H : post (nI (wt_sum r n))) : wpX_size post u (nI (wt_cd r n)) := by
  obtain ⟨f, fl, fx, fb, a1, a2, a3, a4, a5, a6, a7, a8, a9, a10, a11, a12⟩ := u
  unfold wpX_size
  dsimp only
  exact wt_Gshape g hu (br_f (by decide) (wt_sizeOf hu g.2.1 (fun i _ => wt_G9 g i) H))
theorem wt_hook_bad {post : Int32 → Prop} {u : St2} {n : Nat} {p p1 p2 : Int32} (b : wt_bad n p) (hu : u.1 = nI n) (H : post (-1)) : wpX_hook post u p p1 p2 := by
  obtain ⟨f, fl, fx, fb, a1, a2, a3, a4, a5, a6, a7, a8, a9, a10, a11, a12⟩ := u
  unfold wpX_hook
  dsimp only
  exact b _ hu _ (br_t rfl H)
/-- how many of m rows from lo on are longer than k -/
def wt_bl (r : Nat → Nat) (k lo : Nat) : Nat → Nat
  | 0 => 0
  | m + 1 => wt_bl r k lo m + (if k < r (lo + m) then 1 else 0)
theorem wt_hookAt {post : Int32 → Prop} {u : St2} {n i k : Nat} {r : Nat → Nat} (g : wt_G n r) (hu : u.1 = nI n) (hi : i < n) (hk : k ≤ 9) (H : post ((nI (r i) - nI k) + nI (wt_bl r k (i + 1) (n - (i + 1))))) : wpX_hookAt post u (nI (wt_cd r n)) (nI i) (nI k) := by
  obtain ⟨f, fl, fx, fb, a1, a2, a3, a4, a5, a6, a7, a8, a9, a10, a11, a12⟩ := u
  have hu' : f = nI n := hu
  subst hu'
  have hn := g.2.1
  have hr : ∀ i, i < n → r i ≤ 9 := fun i _ => wt_G9 g i
  unfold wpX_hookAt
  dsimp only
  refine nm_r (nI_1 i) ?_
  refine pk_loop (σ := Unit) (fun q j _ => wX_hookAt_8 post (nI (wt_cd r n)) (nI i) (nI k) (nI n) fl fx fb a1 a2 a3 a4 a5 a6 a7 a8 a9 a10 a11 a12 q (nI (wt_bl r k (i + 1) j)) (nI (i + 1 + j))) (fun _ _ => True) (n - (i + 1)) 0 () (Nat.zero_le _) trivial
    (fun q _ _ => pk_le n (i + 1 + (n - (i + 1))) (fun _ => wt_dgt rfl hn hr hi rfl H) (fun z => absurd z (by omega)))
    (fun q j _ hj _ hw => pk_le n (i + 1 + j) (fun z => absurd z (by omega)) (fun _ => wt_dgt rfl hn hr (show i + 1 + j < n by omega) rfl ?_))
  have h9 := hr (i + 1 + j) (by omega)
  have w := hw () trivial
  refine pk_le (r (i + 1 + j)) k (fun z => ?_) (fun z => ?_)
  · refine nm_r (e' := nI (wt_bl r k (i + 1) (j + 1))) ?_ (nm_r (nI_1 _) w)
    show nI (wt_bl r k (i + 1) j) + nI 0 = nI (wt_bl r k (i + 1) j + (if k < r (i + 1 + j) then 1 else 0))
    rw [if_neg (by omega), nI_add]
  · refine nm_r (e' := nI (wt_bl r k (i + 1) (j + 1))) ?_ (nm_r (nI_1 _) w)
    show nI (wt_bl r k (i + 1) j) + nI 1 = nI (wt_bl r k (i + 1) j + (if k < r (i + 1 + j) then 1 else 0))
    rw [if_pos z, nI_add]
theorem wt_hook {post : Int32 → Prop} {u : St2} {n i k : Nat} {r : Nat → Nat} (g : wt_G n r) (hu : u.1 = nI n) (hi : i < n) (hk : k < r i) (H : post ((nI (r i) - nI k) + nI (wt_bl r k (i + 1) (n - (i + 1))))) : wpX_hook post u (nI (wt_cd r n)) (nI i) (nI k) := by
  obtain ⟨f, fl, fx, fb, a1, a2, a3, a4, a5, a6, a7, a8, a9, a10, a11, a12⟩ := u
  have hu' : f = nI n := hu
  subst hu'
  have hn := g.2.1
  have h9 := wt_G9 g i
  unfold wpX_hook
  dsimp only
  refine wt_Gshape g rfl (br_f (by decide) (br_f (nI_pos (by omega)) (br_f (nI_ge hi (by omega)) (br_f (nI_pos (by omega)) (wt_dgt rfl hn (fun i _ => wt_G9 g i) hi rfl (br_t (nI_lt hk (by omega)) ?_))))))
  exact wt_hookAt g rfl hi (by omega) H
theorem wt_hook_no {post : Int32 → Prop} {u : St2} {n : Nat} {r : Nat → Nat} {p1 p2 : Int32} (g : wt_G n r) (hu : u.1 = nI n) (hp : p1 < 0 ∨ nI n ≤ p1 ∨ p2 < 0 ∨ ∃ i, i < n ∧ p1 = nI i ∧ nI (r i) ≤ p2) (H : post (-2)) : wpX_hook post u (nI (wt_cd r n)) p1 p2 := by
  obtain ⟨f, fl, fx, fb, a1, a2, a3, a4, a5, a6, a7, a8, a9, a10, a11, a12⟩ := u
  have hu' : f = nI n := hu
  subst hu'
  have hn := g.2.1
  unfold wpX_hook
  dsimp only
  refine wt_Gshape g rfl (br_f (by decide) (br_c (fun _ => H) (fun h1 => br_c (fun _ => H) (fun h2 => br_c (fun _ => H) (fun h3 => ?_)))))
  rcases hp with c | c | c | ⟨i, hi, e, c⟩
  · exact absurd c h1
  · exact absurd c h2
  · exact absurd c h3
  · exact wt_dgt rfl hn (fun i _ => wt_G9 g i) hi e (br_f (Int32.not_lt.mpr c) H)
theorem wt_strips_bad {post : Int32 → Prop} {u : St2} {n : Nat} {p : Int32} (b : wt_bad n p) (hu : u.1 = nI n) (H : post (-1)) : wpX_strips post u p := by
  obtain ⟨f, fl, fx, fb, a1, a2, a3, a4, a5, a6, a7, a8, a9, a10, a11, a12⟩ := u
  unfold wpX_strips
  dsimp only
  exact b _ hu _ (br_t rfl H)
/-- the product over the first rows -/
def wt_pr (r : Nat → Nat) : Nat → Nat
  | 0 => 1
  | i + 1 => wt_pr r i * (r i - r (i + 1) + 1)
theorem wt_strips {post : Int32 → Prop} {u : St2} {n : Nat} {r : Nat → Nat} (g : wt_G n r) (hu : u.1 = nI n) (H : post (nI (wt_pr r n))) : wpX_strips post u (nI (wt_cd r n)) := by
  obtain ⟨f, fl, fx, fb, a1, a2, a3, a4, a5, a6, a7, a8, a9, a10, a11, a12⟩ := u
  have hu' : f = nI n := hu
  subst hu'
  have hn := g.2.1
  have hr : ∀ i, i < n → r i ≤ 9 := fun i _ => wt_G9 g i
  unfold wpX_strips
  dsimp only
  refine wt_Gshape g rfl (br_f (by decide) ?_)
  refine pk_loop (σ := Unit) (fun q i _ => wX_strips_14 post (nI (wt_cd r n)) (nI n) fl fx fb a1 a2 a3 a4 a5 a6 a7 a8 a9 a10 a11 a12 q (nI (wt_pr r i)) (nI i)) (fun _ _ => True) n 0 () (Nat.zero_le n) trivial
    (fun q _ _ => pk_le n n (fun _ => H) (fun z => absurd z (by omega)))
    (fun q i _ hi _ hw => pk_le n i (fun z => absurd z (by omega)) (fun _ => ?_))
  have w := hw () trivial
  have hm := g.2.2.2.1 i
  have e : nI (wt_pr r i) * ((nI (r i) - nI (r (i + 1))) + 1) = nI (wt_pr r (i + 1)) := by
    rw [pk_sub hm, nI_1, pk_mul]
    rfl
  refine pk_le n (i + 1) (fun z => ?_) (fun z => ?_) rfl (nI_1 i)
  · unfold wX_strips_44
    refine wt_dgt rfl hn hr hi rfl (nm_r ?_ (nm_r (nI_1 i) w))
    rw [g.2.2.1 (i + 1) z] at e
    exact e
  · refine wt_dgt rfl hn hr z (nI_1 i) ?_
    unfold wX_strips_44
    exact wt_dgt rfl hn hr hi rfl (nm_r e (nm_r (nI_1 i) w))
theorem wt_over_bad {post : Int32 → Prop} {u : St2} {n : Nat} {p q : Int32} (b : wt_bad n p) (hu : u.1 = nI n) (H : post (-1)) : wpX_over post u p q := by
  obtain ⟨f, fl, fx, fb, a1, a2, a3, a4, a5, a6, a7, a8, a9, a10, a11, a12⟩ := u
  unfold wpX_over
  dsimp only
  exact b _ hu _ (br_t rfl H)
theorem wt_over {post : Int32 → Prop} {u : St2} {n : Nat} {r : Nat → Nat} (g : wt_G n r) (hu : u.1 = nI n) (H : post 1) : wpX_over post u (nI (wt_cd r n)) (nI (wt_cd r n)) := by
  obtain ⟨f, fl, fx, fb, a1, a2, a3, a4, a5, a6, a7, a8, a9, a10, a11, a12⟩ := u
  have hu' : f = nI n := hu
  subst hu'
  have hn := g.2.1
  have hr : ∀ i, i < n → r i ≤ 9 := fun i _ => wt_G9 g i
  unfold wpX_over
  dsimp only
  refine wt_Gshape g rfl (br_f (by decide) (wt_Gshape g rfl (br_f (by decide) ?_)))
  exact pk_loop (σ := Unit) (fun q i _ => wX_over_23 post (nI (wt_cd r n)) (nI (wt_cd r n)) (nI n) fl fx fb a1 a2 a3 a4 a5 a6 a7 a8 a9 a10 a11 a12 q (nI 0) (nI i)) (fun _ _ => True) n 0 () (Nat.zero_le n) trivial
    (fun q _ _ => pk_le n n (fun _ => br_t rfl H) (fun z => absurd z (by omega)))
    (fun q i _ hi _ hw => pk_le n i (fun z => absurd z (by omega)) (fun _ => wt_dgt rfl hn hr hi rfl (wt_dgt rfl hn hr hi rfl (nm_r (e' := nI 0) (by rw [pk_sub (Nat.le_refl _), Nat.sub_self, nI_add]) (br_t (by decide) (nm_r (nI_1 i) (hw () trivial)))))))
end
section
theorem wt_fd (o t : Nat → Nat) (m : Nat) : ∃ d, d ≤ m ∧ (∀ j, j < d → t j = o j) ∧ (d < m → ¬ t d = o d) := by
  induction m with
  | zero => exact ⟨0, Nat.le_refl 0, fun j h => absurd h (by omega), fun h => absurd h (by omega)⟩
  | succ m ih =>
    obtain ⟨d, h1, h2, h3⟩ := ih
    by_cases hd : d < m
    · exact ⟨d, by omega, h2, fun _ => h3 hd⟩
    · by_cases he : t d = o d
      · refine ⟨d + 1, by omega, fun j hj => ?_, fun h => absurd h (by omega)⟩
        by_cases e : j = d
        · rw [e, he]
        · exact h2 j (by omega)
      · exact ⟨d, by omega, h2, fun _ => he⟩
/-- the next choice of row lengths, the step taken at row k -/
def wt_nx (r t : Nat → Nat) (k : Nat) : Nat → Nat := fun j => if j < k then r j else if j = k then t k - 1 else t j
theorem wt_stepDown {post : Int32 → St2 → Prop} {fn fl fx fb : Int32} {a1 a2 a3 a4 a5 a6 a7 a8 a9 a10 a11 a12 : Nat → Int32} {r o t : Nat → Nat} (h1 : ∀ j, j < 4 → a1 j = nI (r j)) (h2 : ∀ j, j < 4 → a2 j = nI (o j)) (h3 : ∀ j, j < 4 → a3 j = nI (t j)) (hb : ∀ j, j < 4 → o j ≤ t j ∧ t j ≤ r j ∧ r j ≤ 9)
    (H0 : (∀ j, j < 4 → t j = o j) → ∀ s, post 0 (fn, fl, fx, fb, a1, a2, s, a4, a5, a6, a7, a8, a9, a10, a11, a12))
    (H1 : ∀ k, k < 4 → (∀ j, j < k → t j = o j) → o k < t k → ∀ s, (∀ j, j < 4 → s j = nI (wt_nx r t k j)) → post 1 (fn, fl, fx, fb, a1, a2, s, a4, a5, a6, a7, a8, a9, a10, a11, a12)) :
    wpX_stepDown post (fn, fl, fx, fb, a1, a2, a3, a4, a5, a6, a7, a8, a9, a10, a11, a12) := by
  obtain ⟨k, hk, e1, e2⟩ := wt_fd o t 4
  unfold wpX_stepDown
  dsimp only
  refine pk_loop (fun q i s => wX_stepDown_2 post fn fl fx fb q (nI i) a1 a2 s a4 a5 a6 a7 a8 a9 a10 a11 a12) (fun i s => ∀ j, j < 4 → s j = nI (if j < i then r j else t j)) k 0 a3 (Nat.zero_le k) (fun j hj => by rw [if_neg (by omega)]; exact h3 j hj) (fun q s h => ?_) (fun q i s hi h hw => ?_)
  · refine pk_le 4 k (fun z => ?_) (fun z => ?_)
    · unfold wX_stepDown_40
      exact br_t (by rw [show k = 4 by omega]; rfl) (H0 (fun j hj => e1 j (by omega)) s)
    · refine ⟨pk_in k 4 z, pk_in k 4 z, ?_⟩
      rw [nI_clamp (show k < 2 ^ 31 by omega)]
      have b := hb k z
      have e2' := e2 z
      have hs : s k = nI (t k) := by rw [h k z, if_neg (by omega)]
      refine br_f ?_ ?_
      · rw [hs, h2 k z, nI_eq (by omega) (by omega)]
        exact e2'
      · unfold wX_stepDown_40
        refine br_f ?_ ⟨pk_in k 4 z, pk_in k 4 z, nm_e ?_⟩
        · rw [show (4 : Int32) = nI 4 from rfl, nI_eq (by omega) (by omega)]
          omega
        · rw [nI_clamp (show k < 2 ^ 31 by omega)]
          refine H1 k z e1 (by omega) _ (fun j hj => ?_)
          unfold wt_nx
          by_cases e : j = k
          · subst e
            rw [pk_us, if_neg (by omega), if_pos rfl, hs, show (1 : Int32) = nI 1 from rfl, pk_sub (by omega)]
          · rw [pk_un e, h j hj, if_neg e]
  · refine pk_le 4 i (fun z => absurd z (by omega)) (fun z => ⟨pk_in i 4 z, pk_in i 4 z, ?_⟩)
    rw [nI_clamp (show i < 2 ^ 31 by omega)]
    refine br_t ?_ ⟨pk_in i 4 z, pk_in i 4 z, nm_e (nm_r (nI_1 i) (hw _ (fun j hj => ?_)))⟩
    · rw [h i z, if_neg (by omega), h2 i z, e1 i hi]
    · by_cases e : j = i
      · subst e
        rw [pk_us, if_pos (by omega), h1 j hj]
      · rw [pk_un e, h j hj]
        by_cases c : j < i
        · rw [if_pos c, if_pos (by omega)]
        · rw [if_neg c, if_neg (by omega)]
theorem wt_enlist {post : St2 → Prop} {fn fl fb : Int32} {a1 a2 a3 a4 a5 a6 a7 a8 a9 a10 a11 a12 : Nat → Int32} {p q : Int32} (H : post (fn, fl, 1, fb, a1, a2, a3, a4, a5, upd a6 0 p, upd a7 0 q, a8, a9, a10, a11, a12)) : wpX_enlist post (fn, fl, 0, fb, a1, a2, a3, a4, a5, a6, a7, a8, a9, a10, a11, a12) p q :=
  ⟨1, br_t (by decide) ⟨vp_in_iff.mpr (by decide), nm_e ⟨vp_in_iff.mpr (by decide), nm_e (nm_r (e' := 1) (by decide) H)⟩⟩⟩
/-- the one choice that fits: the last row away -/
def wt_tg (r : Nat → Nat) (lt : Nat) : Nat → Nat := fun j => if j + 1 = lt then 0 else r j
/-- where a choice stands among the others -/
def wt_mu (t : Nat → Nat) : Nat := t 0 + 10 * t 1 + 100 * t 2 + 1000 * t 3
theorem wt_4 {p : Nat → Prop} (h0 : p 0) (h1 : p 1) (h2 : p 2) (h3 : p 3) : ∀ j, j < 4 → p j := by
  intro j hj
  rcases (by omega : j = 0 ∨ j = 1 ∨ j = 2 ∨ j = 3) with e | e | e | e
  · exact e ▸ h0
  · exact e ▸ h1
  · exact e ▸ h2
  · exact e ▸ h3
theorem wt_hit {r t : Nat → Nat} {lt : Nat} (h1 : 1 ≤ lt) (h4 : lt ≤ 4) (ht : ∀ j, j < 4 → t j ≤ r j) (hz : ∀ j, lt ≤ j → r j = 0) (e : t 0 + t 1 + t 2 + t 3 = r 0 + r 1 + r 2 + r 3 - r (lt - 1)) (e2 : t (lt - 1) = 0) : ∀ j, j < 4 → t j = wt_tg r lt j := by
  have t0 := ht 0 (by omega)
  have t1 := ht 1 (by omega)
  have t2 := ht 2 (by omega)
  have t3 := ht 3 (by omega)
  unfold wt_tg
  rcases (by omega : lt = 1 ∨ lt = 2 ∨ lt = 3 ∨ lt = 4) with h | h | h | h
  · subst h
    have z1 := hz 1 (by omega)
    have z2 := hz 2 (by omega)
    have z3 := hz 3 (by omega)
    have e3 : t 0 = 0 := e2
    refine wt_4 ?_ ?_ ?_ ?_ <;> simp <;> omega
  · subst h
    have z2 := hz 2 (by omega)
    have z3 := hz 3 (by omega)
    have e3 : t 1 = 0 := e2
    have e4 : t 0 + t 1 + t 2 + t 3 = r 0 + r 1 + r 2 + r 3 - r 1 := e
    refine wt_4 ?_ ?_ ?_ ?_ <;> simp <;> omega
  · subst h
    have z3 := hz 3 (by omega)
    have e3 : t 2 = 0 := e2
    have e4 : t 0 + t 1 + t 2 + t 3 = r 0 + r 1 + r 2 + r 3 - r 2 := e
    refine wt_4 ?_ ?_ ?_ ?_ <;> simp <;> omega
  · subst h
    have e3 : t 3 = 0 := e2
    have e4 : t 0 + t 1 + t 2 + t 3 = r 0 + r 1 + r 2 + r 3 - r 3 := e
    refine wt_4 ?_ ?_ ?_ ?_ <;> simp <;> omega
theorem wt_tgs {r : Nat → Nat} {lt : Nat} (h1 : 1 ≤ lt) (h4 : lt ≤ 4) : wt_tg r lt 0 + wt_tg r lt 1 + wt_tg r lt 2 + wt_tg r lt 3 = r 0 + r 1 + r 2 + r 3 - r (lt - 1) ∧ wt_tg r lt (lt - 1) = 0 := by
  unfold wt_tg
  rcases (by omega : lt = 1 ∨ lt = 2 ∨ lt = 3 ∨ lt = 4) with h | h | h | h
  · subst h
    refine ⟨?_, ?_⟩ <;> simp <;> omega
  · subst h
    refine ⟨?_, ?_⟩ <;> simp <;> omega
  · subst h
    refine ⟨?_, ?_⟩ <;> simp <;> omega
  · subst h
    refine ⟨?_, ?_⟩ <;> simp
theorem wt_tgb {r : Nat → Nat} {lt : Nat} (hz : ∀ j, lt ≤ j → r j = 0) (hm : ∀ i, r (i + 1) ≤ r i) (j : Nat) : r (j + 1) ≤ wt_tg r lt j ∧ wt_tg r lt j ≤ r j := by
  have m := hm j
  unfold wt_tg
  by_cases e : j + 1 = lt
  · rw [if_pos e, hz (j + 1) (by omega)]
    omega
  · rw [if_neg e]
    omega
theorem wt_mu_inj {s t : Nat → Nat} (hs : ∀ j, j < 4 → s j ≤ 9) (ht : ∀ j, j < 4 → t j ≤ 9) (e : wt_mu s = wt_mu t) : ∀ j, j < 4 → s j = t j := by
  have s0 := hs 0 (by omega)
  have s1 := hs 1 (by omega)
  have s2 := hs 2 (by omega)
  have s3 := hs 3 (by omega)
  have t0 := ht 0 (by omega)
  have t1 := ht 1 (by omega)
  have t2 := ht 2 (by omega)
  have t3 := ht 3 (by omega)
  unfold wt_mu at e
  refine wt_4 ?_ ?_ ?_ ?_ <;> omega
theorem wt_mu_eq {s t : Nat → Nat} (e : ∀ j, j < 4 → s j = t j) : wt_mu s = wt_mu t := by
  unfold wt_mu
  rw [e 0 (by omega), e 1 (by omega), e 2 (by omega), e 3 (by omega)]
theorem wt_cd_eq {s t : Nat → Nat} {n : Nat} (e : ∀ j, j < n → s j = t j) : wt_cd s n = wt_cd t n := by
  induction n with
  | zero => rfl
  | succ n ih =>
    show 10 * wt_cd s n + s n = 10 * wt_cd t n + t n
    rw [ih (fun j hj => e j (by omega)), e n (by omega)]
/-- a step goes down, and jumps over no choice -/
theorem wt_mu_nx {r o t T : Nat → Nat} {k : Nat} (hk : k < 4) (hb : ∀ j, j < 4 → o j ≤ t j ∧ t j ≤ r j ∧ r j ≤ 9) (hT : ∀ j, j < 4 → o j ≤ T j ∧ T j ≤ r j) (e : ∀ j, j < k → t j = o j) (hk2 : o k < t k) : wt_mu (wt_nx r t k) < wt_mu t ∧ (wt_mu T < wt_mu t → wt_mu T ≤ wt_mu (wt_nx r t k)) ∧ ∀ j, j < 4 → o j ≤ wt_nx r t k j ∧ wt_nx r t k j ≤ r j := by
  have b0 := hb 0 (by omega)
  have b1 := hb 1 (by omega)
  have b2 := hb 2 (by omega)
  have b3 := hb 3 (by omega)
  have T0 := hT 0 (by omega)
  have T1 := hT 1 (by omega)
  have T2 := hT 2 (by omega)
  have T3 := hT 3 (by omega)
  unfold wt_mu wt_nx
  rcases (by omega : k = 0 ∨ k = 1 ∨ k = 2 ∨ k = 3) with h | h | h | h
  · subst h
    refine ⟨?_, ?_, wt_4 ?_ ?_ ?_ ?_⟩ <;> simp <;> omega
  · subst h
    have e0 := e 0 (by omega)
    refine ⟨?_, ?_, wt_4 ?_ ?_ ?_ ?_⟩ <;> simp <;> omega
  · subst h
    have e0 := e 0 (by omega)
    have e1 := e 1 (by omega)
    refine ⟨?_, ?_, wt_4 ?_ ?_ ?_ ?_⟩ <;> simp <;> omega
  · subst h
    have e0 := e 0 (by omega)
    have e1 := e 1 (by omega)
    have e2 := e 2 (by omega)
    refine ⟨?_, ?_, wt_4 ?_ ?_ ?_ ?_⟩ <;> simp <;> omega
end
section
/-- what is listed ahead of the choice t: nothing while the fitting one is still to come, else that one alone -/
def wt_J (n : Nat) (T t : Nat → Nat) (fx : Int32) (a6 a7 : Nat → Int32) : Prop := (wt_mu T ≤ wt_mu t ∧ fx = 0) ∨ (wt_mu t < wt_mu T ∧ fx = 1 ∧ a6 0 = nI (wt_cd T n) ∧ a7 0 = 1)
/-- the same behind it -/
def wt_K (n : Nat) (T t : Nat → Nat) (fx : Int32) (a6 a7 : Nat → Int32) : Prop := (wt_mu T < wt_mu t ∧ fx = 0) ∨ (wt_mu t ≤ wt_mu T ∧ fx = 1 ∧ a6 0 = nI (wt_cd T n) ∧ a7 0 = 1)
theorem wt_167 {post : St2 → Prop} {J : Int32 → Int32 → Int32 → Int32 → Int32 → (Nat → Int32) → (Nat → Int32) → (Nat → Int32) → (Nat → Int32) → (Nat → Int32) → (Nat → Int32) → (Nat → Int32) → (Nat → Int32) → (Nat → Int32) → (Nat → Int32) → (Nat → Int32) → (Nat → Int32) → Prop} {x2 x4 x5 fl fb : Int32} {a1 a2 a3 a4 a5 a6 a7 a8 a9 a10 a11 a12 : Nat → Int32} {n : Nat} {t : Nat → Nat} (hn : n ≤ 4) (h3 : ∀ j, j < 4 → a3 j = nI (t j))
    (H : wX_takeStrips_204 post J x2 x4 x5 (nI n) fl 1 fb a1 a2 a3 a4 a5 (upd a6 0 (nI (wt_cd t n))) (upd a7 0 x2) a8 a9 a10 a11 a12) :
    ∃ q, wX_takeStrips_167 post J x2 x4 x5 (nI n) fl 0 fb a1 a2 a3 a4 a5 a6 a7 a8 a9 a10 a11 a12 q 0 0 := by
  refine pk_loop (σ := Unit) (fun q i _ => wX_takeStrips_167 post J x2 x4 x5 (nI n) fl 0 fb a1 a2 a3 a4 a5 a6 a7 a8 a9 a10 a11 a12 q (nI (wt_cd t i)) (nI i)) (fun _ _ => True) n 0 () (Nat.zero_le n) trivial
    (fun q _ _ => pk_le n n (fun _ => wt_enlist H) (fun z => absurd z (by omega)))
    (fun q i _ hi _ hw => pk_le n i (fun z => absurd z (by omega)) (fun _ => ⟨pk_in i 4 (by omega), nm_r (e' := nI (wt_cd t (i + 1))) ?_ (nm_r (nI_1 i) (hw () trivial))⟩))
  rw [nI_clamp (show i < 2 ^ 31 by omega), h3 i (by omega), show (10 : Int32) = nI 10 from rfl, pk_mul, nI_add]
  rfl
theorem wt_204 {post : St2 → Prop} {J : Int32 → Int32 → Int32 → Int32 → Int32 → (Nat → Int32) → (Nat → Int32) → (Nat → Int32) → (Nat → Int32) → (Nat → Int32) → (Nat → Int32) → (Nat → Int32) → (Nat → Int32) → (Nat → Int32) → (Nat → Int32) → (Nat → Int32) → (Nat → Int32) → Prop} {x2 x4 x5 fl fx fb : Int32} {a1 a2 a3 a4 a5 a6 a7 a8 a9 a10 a11 a12 : Nat → Int32} {n : Nat} {r o t T : Nat → Nat}
    (h1 : ∀ j, j < 4 → a1 j = nI (r j)) (h2 : ∀ j, j < 4 → a2 j = nI (o j)) (h3 : ∀ j, j < 4 → a3 j = nI (t j)) (hb : ∀ j, j < 4 → o j ≤ t j ∧ t j ≤ r j ∧ r j ≤ 9) (hT : ∀ j, j < 4 → o j ≤ T j ∧ T j ≤ r j) (k : wt_K n T t fx a6 a7)
    (H0 : fx = 1 → a6 0 = nI (wt_cd T n) → a7 0 = 1 → ∀ s, J 0 (nI n) fl fx fb a1 a2 s a4 a5 a6 a7 a8 a9 a10 a11 a12)
    (H1 : ∀ t', wt_mu t' < wt_mu t → (∀ j, j < 4 → o j ≤ t' j ∧ t' j ≤ r j) → wt_J n T t' fx a6 a7 → ∀ s, (∀ j, j < 4 → s j = nI (t' j)) → J 1 (nI n) fl fx fb a1 a2 s a4 a5 a6 a7 a8 a9 a10 a11 a12) :
    wX_takeStrips_204 post J x2 x4 x5 (nI n) fl fx fb a1 a2 a3 a4 a5 a6 a7 a8 a9 a10 a11 a12 := by
  unfold wX_takeStrips_204
  refine wt_stepDown h1 h2 h3 hb (fun e s => ?_) (fun i hi e e2 s hs => ?_)
  · have m := wt_mu_eq e
    rcases k with ⟨k1, _⟩ | ⟨_, k2, k3, k4⟩
    · exfalso
      rw [m] at k1
      unfold wt_mu at k1
      have T0 := hT 0 (by omega)
      have T1 := hT 1 (by omega)
      have T2 := hT 2 (by omega)
      have T3 := hT 3 (by omega)
      omega
    · exact H0 k2 k3 k4 s
  · obtain ⟨m1, m2, m3⟩ := wt_mu_nx hi hb hT e e2
    refine H1 (wt_nx r t i) m1 m3 ?_ s hs
    rcases k with ⟨k1, k2⟩ | ⟨k1, k2⟩
    · exact Or.inl ⟨m2 k1, k2⟩
    · exact Or.inr ⟨by omega, k2⟩
theorem wt_108 {post : St2 → Prop} {fl fb : Int32} {a1 a2 a4 a5 a8 a9 a10 a11 a12 : Nat → Int32} {n lt : Nat} {r : Nat → Nat} (hn : n ≤ 4) (hl : 1 ≤ lt) (hln : lt ≤ n) (h9 : ∀ j, r j ≤ 9) (hz : ∀ j, lt ≤ j → r j = 0) (hm : ∀ i, r (i + 1) ≤ r i)
    (h1 : ∀ j, j < 4 → a1 j = nI (r j)) (h2 : ∀ j, j < 4 → a2 j = nI (r (j + 1)))
    (H : ∀ a3 a6 a7 : Nat → Int32, a6 0 = nI (wt_cd (wt_tg r lt) n) → a7 0 = 1 → post (nI n, fl, 1, fb, a1, a2, a3, a4, a5, a6, a7, a8, a9, a10, a11, a12)) :
    ∀ (f : Nat) (t : Nat → Nat) (fx : Int32) (a3 a6 a7 : Nat → Int32), wt_mu t < f → (∀ j, j < 4 → a3 j = nI (t j)) → (∀ j, j < 4 → r (j + 1) ≤ t j ∧ t j ≤ r j) → wt_J n (wt_tg r lt) t fx a6 a7 →
      wX_takeStrips_108 post 1 (nI lt) (nI (r 0 + r 1 + r 2 + r 3 - r (lt - 1))) (f + 1) 1 (nI n) fl fx fb a1 a2 a3 a4 a5 a6 a7 a8 a9 a10 a11 a12 := by
  intro f
  induction f with
  | zero => intro t fx a3 a6 a7 hf; omega
  | succ f ih =>
    intro t fx a3 a6 a7 hf h3 hb hj
    have hb' : ∀ j, j < 4 → r (j + 1) ≤ t j ∧ t j ≤ r j ∧ r j ≤ 9 := fun j hj => ⟨(hb j hj).1, (hb j hj).2, h9 j⟩
    have hT : ∀ j, j < 4 → r (j + 1) ≤ wt_tg r lt j ∧ wt_tg r lt j ≤ r j := fun j _ => wt_tgb hz hm j
    have tail : ∀ (fx : Int32) (a6 a7 : Nat → Int32), wt_K n (wt_tg r lt) t fx a6 a7 → wX_takeStrips_204 post (wX_takeStrips_108 post 1 (nI lt) (nI (r 0 + r 1 + r 2 + r 3 - r (lt - 1))) (f + 1)) 1 (nI lt) (nI (r 0 + r 1 + r 2 + r 3 - r (lt - 1))) (nI n) fl fx fb a1 a2 a3 a4 a5 a6 a7 a8 a9 a10 a11 a12 := by
      intro fx a6 a7 k
      refine wt_204 h1 h2 h3 hb' hT k (fun e1 e2 e3 s => ?_) (fun t' m1 m2 m3 s hs => ?_)
      · subst e1
        exact br_t rfl (H s a6 a7 e2 e3)
      · exact ih t' fx s a6 a7 (by omega) hs m2 m3
    have b0 := h9 0
    have b1 := h9 1
    have b2 := h9 2
    have b3 := h9 3
    have t0 := hb 0 (by omega)
    have t1 := hb 1 (by omega)
    have t2 := hb 2 (by omega)
    have t3 := hb 3 (by omega)
    have tl := hb (lt - 1) (by omega)
    have bl := h9 (lt - 1)
    have el : nI lt - 1 = nI (lt - 1) := by
      rw [show (1 : Int32) = nI 1 from rfl, pk_sub hl]
    have miss : ¬ (t 0 + t 1 + t 2 + t 3 = r 0 + r 1 + r 2 + r 3 - r (lt - 1) ∧ t (lt - 1) = 0) → wt_K n (wt_tg r lt) t fx a6 a7 := by
      intro c
      rcases hj with ⟨k1, k2⟩ | ⟨k1, k2⟩
      · by_cases e : wt_mu (wt_tg r lt) = wt_mu t
        · exfalso
          have q := wt_mu_inj (fun j hj => Nat.le_trans (hT j hj).2 (h9 j)) (fun j hj => Nat.le_trans (hb j hj).2 (h9 j)) e
          have s := wt_tgs (r := r) hl (show lt ≤ 4 by omega)
          rw [q 0 (by omega), q 1 (by omega), q 2 (by omega), q 3 (by omega), q (lt - 1) (by omega)] at s
          exact c s
        · exact Or.inl ⟨by omega, k2⟩
      · exact Or.inr ⟨by omega, k2⟩
    refine br_f (by decide) (nm_r (e' := nI (t 0 + t 1 + t 2 + t 3)) ?_ ?_)
    · rw [h3 0 (by omega), h3 1 (by omega), h3 2 (by omega), h3 3 (by omega), nI_add, nI_add, nI_add]
    · refine pk_eq (t 0 + t 1 + t 2 + t 3) (r 0 + r 1 + r 2 + r 3 - r (lt - 1)) (fun z => ⟨pk_in (lt - 1) 4 (by omega) el, ?_⟩) (fun z => tail fx a6 a7 (miss (fun c => z c.1)))
      have ez : a3 (nI lt - 1).toNatClampNeg = nI (t (lt - 1)) := by
        rw [el, nI_clamp (by omega)]
        exact h3 (lt - 1) (by omega)
      refine pk_eq (t (lt - 1)) 0 (fun w => ?_) (fun w => tail fx a6 a7 (miss (fun c => w c.2))) ez
      have q := wt_hit hl (by omega) (fun j hj => (hb j hj).2) hz z w
      have m := wt_mu_eq q
      rcases hj with ⟨k1, k2⟩ | ⟨k1, k2⟩
      · subst k2
        refine wt_167 hn h3 (tail 1 _ _ (Or.inr ⟨by omega, rfl, ?_, pk_us⟩))
        rw [pk_us, wt_cd_eq (fun j hj => q j (by omega))]
      · omega
theorem wt_sum4 {r : Nat → Nat} {n : Nat} (h2 : 2 ≤ n) (hn : n ≤ 4) (hz : ∀ j, n ≤ j → r j = 0) : wt_sum r n = r 0 + r 1 + r 2 + r 3 := by
  rcases (by omega : n = 2 ∨ n = 3 ∨ n = 4) with h | h | h
  · subst h
    have z2 := hz 2 (by omega)
    have z3 := hz 3 (by omega)
    show 0 + r 0 + r 1 = _
    omega
  · subst h
    have z3 := hz 3 (by omega)
    show 0 + r 0 + r 1 + r 2 = _
    omega
  · subst h
    show 0 + r 0 + r 1 + r 2 + r 3 = _
    omega
theorem wt_35 {post : St2 → Prop} {J : Int32 → (Nat → Int32) → (Nat → Int32) → (Nat → Int32) → (Nat → Int32) → (Nat → Int32) → (Nat → Int32) → (Nat → Int32) → (Nat → Int32) → (Nat → Int32) → (Nat → Int32) → (Nat → Int32) → (Nat → Int32) → Prop} {x2 x3 x4 z fl fx fb : Int32} {a1 a2 a3 a4 a5 a6 a7 a8 a9 a10 a11 a12 : Nat → Int32} {n i : Nat} {r : Nat → Nat} (hn : n ≤ 4) (hi : i < 4) (h9 : ∀ j, r j ≤ 9) (hz : ∀ j, n ≤ j → r j = 0) (ez : z = nI (r i))
    (H : J (nI (i + 1)) (upd a1 i (nI (r i))) (upd a2 i (nI (r (i + 1)))) (upd a3 i (nI (r i))) a4 a5 a6 a7 a8 a9 a10 a11 a12) :
    wX_takeStrips_35 post J (nI (wt_cd r n)) x2 x3 x4 (nI i) z (nI i) (nI n) fl fx fb a1 a2 a3 a4 a5 a6 a7 a8 a9 a10 a11 a12 := by
  subst ez
  have t66 : wX_takeStrips_66 post J (nI (wt_cd r n)) x2 x3 x4 (nI i) (nI (r (i + 1))) (nI i) (nI n) fl fx fb (upd a1 i (nI (r i))) a2 a3 a4 a5 a6 a7 a8 a9 a10 a11 a12 := by
    unfold wX_takeStrips_66
    rw [nI_clamp (show i < 2 ^ 31 by omega)]
    refine ⟨pk_in i 4 hi, nm_e ⟨pk_in i 4 hi, pk_in i 4 hi, nm_e (nm_r (nI_1 i) ?_)⟩⟩
    rw [pk_us]
    exact H
  unfold wX_takeStrips_35
  rw [nI_clamp (show i < 2 ^ 31 by omega)]
  refine ⟨pk_in i 4 hi, nm_e (pk_le n (i + 1) (fun c => ?_) (fun c => ?_) rfl (nI_1 i))⟩
  · rw [hz (i + 1) c] at t66
    exact t66
  · exact wt_dgt rfl hn (fun j _ => h9 j) c (nI_1 i) t66
theorem wt_takeStrips {post : St2 → Prop} {fl fb p0 p1 p2 : Int32} {a1 a2 a3 a4 a5 a6 a7 a8 a9 a10 a11 a12 : Nat → Int32} {n lt : Nat} {r : Nat → Nat} (h2 : 2 ≤ n) (hn : n ≤ 4) (hl : 1 ≤ lt) (hln : lt ≤ n) (h9 : ∀ j, r j ≤ 9) (hz : ∀ j, lt ≤ j → r j = 0) (hm : ∀ i, r (i + 1) ≤ r i)
    (e0 : p0 = nI (wt_cd r n)) (e1 : p1 = 1) (e2 : p2 = nI (r (lt - 1)))
    (H : ∀ a1 a2 a3 a6 a7 : Nat → Int32, a6 0 = nI (wt_cd (wt_tg r lt) n) → a7 0 = 1 → post (nI n, fl, 1, fb, a1, a2, a3, a4, a5, a6, a7, a8, a9, a10, a11, a12)) :
    wpX_takeStrips post (nI n, fl, 0, fb, a1, a2, a3, a4, a5, a6, a7, a8, a9, a10, a11, a12) p0 p1 p2 (nI lt) := by
  subst e0 e1 e2
  have hzn : ∀ j, n ≤ j → r j = 0 := fun j hj => hz j (by omega)
  have hs := wt_sum4 h2 hn hzn
  have hlt := wt_sum_ge (r := r) (show lt - 1 < n by omega)
  have b0 := h9 0
  have b1 := h9 1
  have b2 := h9 2
  have b3 := h9 3
  unfold wpX_takeStrips
  dsimp only
  refine pk_loop (fun q i (s : (Nat → Int32) × (Nat → Int32) × (Nat → Int32)) => wX_takeStrips_3 post (nI (wt_cd r n)) 1 (nI (r (lt - 1))) (nI lt) (nI n) fl 0 fb q (nI i) s.1 s.2.1 s.2.2 a4 a5 a6 a7 a8 a9 a10 a11 a12) (fun i s => ∀ j, j < i → s.1 j = nI (r j) ∧ s.2.1 j = nI (r (j + 1)) ∧ s.2.2 j = nI (r j)) 4 0 (a1, a2, a3) (by omega) (fun j hj => absurd hj (by omega))
    (fun q s h => pk_le 4 4 (fun _ => wt_sizeOf rfl hn (fun j _ => h9 j) (nm_r (e' := nI (r 0 + r 1 + r 2 + r 3 - r (lt - 1))) (by rw [pk_sub hlt, hs]) (br_f (nI_pos (by omega)) ?_))) (fun z => absurd z (by omega)))
    (fun q i s hi h hw => pk_le 4 i (fun z => absurd z (by omega)) (fun _ => ?_))
  · exact ⟨_, wt_108 hn hl hln h9 hz hm (fun j hj => (h j hj).1) (fun j hj => (h j hj).2.1) (fun a3 a6 a7 => H s.1 s.2.1 a3 a6 a7) (wt_mu r + 1) r 0 s.2.2 a6 a7 (by omega) (fun j hj => (h j hj).2.2) (fun j _ => ⟨hm j, Nat.le_refl _⟩) (Or.inl ⟨by
      have T0 := (wt_tgb hz hm 0).2
      have T1 := (wt_tgb hz hm 1).2
      have T2 := (wt_tgb hz hm 2).2
      have T3 := (wt_tgb hz hm 3).2
      unfold wt_mu
      omega, rfl⟩)⟩
  · have w : wX_takeStrips_3 post (nI (wt_cd r n)) 1 (nI (r (lt - 1))) (nI lt) (nI n) fl 0 fb q (nI (i + 1)) (upd s.1 i (nI (r i))) (upd s.2.1 i (nI (r (i + 1)))) (upd s.2.2 i (nI (r i))) a4 a5 a6 a7 a8 a9 a10 a11 a12 := by
      refine hw (upd s.1 i (nI (r i)), upd s.2.1 i (nI (r (i + 1))), upd s.2.2 i (nI (r i))) (fun j hj => ?_)
      dsimp only
      by_cases e : j = i
      · subst e
        exact ⟨pk_us, pk_us, pk_us⟩
      · rw [pk_un e, pk_un e, pk_un e]
        exact h j (by omega)
    refine pk_le n i (fun c => ?_) (fun c => ?_)
    · exact wt_35 hn hi h9 hzn (by rw [hzn i c]; rfl) w
    · exact wt_dgt rfl hn (fun j _ => h9 j) c rfl (wt_35 hn hi h9 hzn rfl w)
end
section
/-- the first L rows alone -/
def wt_up (r : Nat → Nat) (L : Nat) : Nat → Nat := fun j => if j < L then r j else 0
theorem wt_up_tg (r : Nat → Nat) (L j : Nat) : wt_tg (wt_up r (L + 1)) (L + 1) j = wt_up r L j := by
  unfold wt_tg wt_up
  by_cases e : j = L
  · subst e
    rw [if_pos rfl, if_neg (by omega)]
  · rw [if_neg (by omega)]
    by_cases c : j < L
    · rw [if_pos (by omega), if_pos c]
    · rw [if_neg (by omega), if_neg c]
theorem wt_24 {post : Int32 → St2 → Prop} {n : Nat} {r : Nat → Nat} (g : wt_G n r) (H : ∀ u, post 1 u) :
    ∀ (L : Nat), L ≤ n → ∀ (fx fb : Int32) (a1 a2 a3 a4 a5 a6 a7 a8 a9 a10 a11 a12 : Nat → Int32), a4 0 = nI (wt_cd (wt_up r L) n) → a5 0 = 1 → wX_countFor_24 post (nI (wt_cd r n)) (L + 1) (nI L) (nI n) 1 fx fb a1 a2 a3 a4 a5 a6 a7 a8 a9 a10 a11 a12 := by
  have h2 := g.1
  have hn := g.2.1
  have hm := g.2.2.2.1
  have h9 : ∀ j, r j ≤ 9 := fun j => wt_G9 g j
  intro L
  induction L with
  | zero =>
    intro _ fx fb a1 a2 a3 a4 a5 a6 a7 a8 a9 a10 a11 a12 e4 e5
    refine br_t (by decide) (br_f (by decide) ?_)
    rw [e5]
    exact H _
  | succ L ih =>
    intro hL fx fb a1 a2 a3 a4 a5 a6 a7 a8 a9 a10 a11 a12 e4 e5
    have u9 : ∀ j, wt_up r (L + 1) j ≤ 9 := by
      intro j
      unfold wt_up
      have := h9 j
      by_cases c : j < L + 1
      · rw [if_pos c]
        exact this
      · rw [if_neg c]
        omega
    have uz : ∀ j, L + 1 ≤ j → wt_up r (L + 1) j = 0 := by
      intro j hj
      unfold wt_up
      rw [if_neg (by omega)]
    have um : ∀ j, wt_up r (L + 1) (j + 1) ≤ wt_up r (L + 1) j := by
      intro j
      unfold wt_up
      have := hm j
      by_cases c : j + 1 < L + 1
      · rw [if_pos c, if_pos (by omega)]
        exact this
      · rw [if_neg c]
        omega
    have ul : nI (r L) = nI (wt_up r (L + 1) (L + 1 - 1)) := by
      unfold wt_up
      rw [if_pos (by omega)]
      rfl
    refine br_f (nI_nlt (a := L + 1) (b := 1) (by omega) (by omega)) (wt_dgt rfl hn (fun j _ => h9 j) (show L < n by omega) (nI_pred L) ⟨2, ?_⟩)
    refine br_f (by decide) ⟨vp_in_iff.mpr (by decide), vp_in_iff.mpr (by decide), ?_⟩
    refine wt_takeStrips (r := wt_up r (L + 1)) h2 hn (by omega) hL u9 uz um e4 e5 ul (fun b1 b2 b3 b6 b7 d6 d7 => ?_)
    refine nm_r (e' := 1) (by decide) (br_t (by decide) ⟨2, ?_⟩)
    refine br_f (by decide) ⟨vp_in_iff.mpr (by decide), vp_in_iff.mpr (by decide), nm_e ⟨vp_in_iff.mpr (by decide), vp_in_iff.mpr (by decide), nm_e (nm_r (e' := 1) (by decide) (br_t (by decide) (nm_r (pk_m1 L) ?_)))⟩⟩
    refine ih (by omega) _ _ _ _ _ _ _ _ _ _ _ _ _ _ ?_ ?_
    · have d6' : b6 0 = nI (wt_cd (wt_up r L) n) := by
        rw [d6, wt_cd_eq (fun j _ => wt_up_tg r L j)]
      exact d6'
    · exact d7
theorem wt_countFor {post : Int32 → St2 → Prop} {u : St2} {n : Nat} {r : Nat → Nat} (g : wt_G n r) (hu : u.1 = nI n) (H : ∀ u, post 1 u) : wpX_countFor post u (nI (wt_cd r n)) (nI (wt_cd r n)) := by
  obtain ⟨f, fl, fx, fb, a1, a2, a3, a4, a5, a6, a7, a8, a9, a10, a11, a12⟩ := u
  have hu' : f = nI n := hu
  subst hu'
  unfold wpX_countFor
  dsimp only
  refine nm_e (nm_e ⟨n + 1, wt_24 g H n (Nat.le_refl n) _ _ _ _ _ _ _ _ _ _ _ _ _ _ ?_ pk_us⟩)
  rw [pk_us]
  exact congrArg nI (wt_cd_eq (fun j hj => by unfold wt_up; rw [if_pos hj]))
theorem wt_mult {post : Int32 → St2 → Prop} {u : St2} {n : Nat} {r : Nat → Nat} (g : wt_G n r) (hu : u.1 = nI n) (H : ∀ u, post 1 u) : wpX_multiplicity post u (nI (wt_cd r n)) (nI (wt_cd r n)) := by
  obtain ⟨f, fl, fx, fb, a1, a2, a3, a4, a5, a6, a7, a8, a9, a10, a11, a12⟩ := u
  have hu' : f = nI n := hu
  subst hu'
  have hc := wt_cd_lt (fun i (_ : i < n) => wt_G9 g i)
  have hn := g.2.1
  have h4 : 10 ^ n ≤ 10 ^ 4 := wt_p10 hn
  unfold wpX_multiplicity
  dsimp only
  exact wt_Gshape g rfl (br_f (by decide) (br_f (nI_pos (by omega)) (wt_power (by omega) (br_t (nI_lt hc (by omega)) (wt_countFor g rfl (fun u => H u))))))
theorem wt_mult_bad {post : Int32 → St2 → Prop} {u : St2} {n : Nat} {p q : Int32} (b : wt_bad n p) (hu : u.1 = nI n) (H : ∀ u, post (-1) u) : wpX_multiplicity post u p q := by
  obtain ⟨f, fl, fx, fb, a1, a2, a3, a4, a5, a6, a7, a8, a9, a10, a11, a12⟩ := u
  unfold wpX_multiplicity
  dsimp only
  exact b _ hu _ (br_t rfl (H _))
end
section
theorem wt_487b {post : Int32 → St0 → Prop} {mc ms kc ks n : Nat} {x1 fl fx fb : Int32} {a1 a2 a3 a4 a5 a6 a7 a8 a9 a10 a11 a12 : Nat → Int32} (b : wt_bad n x1) (P : post 1 ()) : wL_lawOf_487 post mc ms x1 0 (-1) (-1) kc ks (nI n) fl fx fb a1 a2 a3 a4 a5 a6 a7 a8 a9 a10 a11 a12 := by
  unfold wL_lawOf_487
  refine br_t rfl (wt_over_bad b rfl (wt_mult_bad b rfl (fun u => ?_)))
  obtain ⟨_, _, _, _, _, _, _, _, _, _, _, _, _, _, _, _⟩ := u
  exact br_t rfl (br_t rfl (br_t rfl (br_t rfl P)))
theorem wt_394b {post : Int32 → St0 → Prop} {mc ms kc ks n : Nat} {x1 fl fx fb : Int32} {a1 a2 a3 a4 a5 a6 a7 a8 a9 a10 a11 a12 : Nat → Int32} (b : wt_bad n x1) (P : post 1 ()) (x2 x3 x8 x9 x10 x11 x16 x17 z0 z1 : Int32) : wL_lawOf_394 post mc ms x1 x2 x3 x8 x9 x10 x11 0 x16 x17 z0 z1 kc ks (nI n) fl fx fb a1 a2 a3 a4 a5 a6 a7 a8 a9 a10 a11 a12 := by
  unfold wL_lawOf_394
  refine nm_e (wt_hook_bad b rfl (br_t rfl ?_))
  unfold wL_lawOf_435
  exact br_t rfl (wt_strips_bad b rfl (br_t rfl (wt_487b b P)))
theorem wt_343a {post : Int32 → St0 → Prop} {mc ms kc ks : Nat} {x1 x2 x3 x8 x9 x10 x11 x12 x16 x17 fn fl fx fb : Int32} {a1 a2 a3 a4 a5 a6 a7 a8 a9 a10 a11 a12 : Nat → Int32} (h : ∀ z0 z1, wL_lawOf_394 post mc ms x1 x2 x3 x8 x9 x10 x11 x12 x16 x17 z0 z1 kc ks fn fl fx fb a1 a2 a3 a4 a5 a6 a7 a8 a9 a10 a11 a12) : wL_lawOf_343 post mc ms x1 x2 x3 x8 x9 x10 x11 x12 x16 x17 kc ks fn fl fx fb a1 a2 a3 a4 a5 a6 a7 a8 a9 a10 a11 a12 := by
  have h393 : ∀ z, wL_lawOf_393 post mc ms x1 x2 x3 x8 x9 x10 x11 x12 x16 x17 z kc ks fn fl fx fb a1 a2 a3 a4 a5 a6 a7 a8 a9 a10 a11 a12 := by
    intro z
    unfold wL_lawOf_393
    exact h _ _
  have h377 : ∀ z0 z1, wL_lawOf_377 post mc ms x1 x2 x3 x8 x9 x10 x11 x12 x16 x17 z0 z1 kc ks fn fl fx fb a1 a2 a3 a4 a5 a6 a7 a8 a9 a10 a11 a12 := by
    intro z0 z1
    unfold wL_lawOf_377
    exact br_c (fun _ => h393 _) (fun _ => br_c (fun _ => h393 _) (fun _ => h _ _))
  have h376 : ∀ z, wL_lawOf_376 post mc ms x1 x2 x3 x8 x9 x10 x11 x12 x16 x17 z kc ks fn fl fx fb a1 a2 a3 a4 a5 a6 a7 a8 a9 a10 a11 a12 := by
    intro z
    unfold wL_lawOf_376
    exact h377 _ _
  have h361 : ∀ z, wL_lawOf_361 post mc ms x1 x2 x3 x8 x9 x10 x11 x12 x16 x17 z kc ks fn fl fx fb a1 a2 a3 a4 a5 a6 a7 a8 a9 a10 a11 a12 := by
    intro z
    unfold wL_lawOf_361
    exact br_c (fun _ => h376 _) (fun _ => br_c (fun _ => h376 _) (fun _ => h377 _ _))
  have h360 : wL_lawOf_360 post mc ms x1 x2 x3 x8 x9 x10 x11 x12 x16 x17 kc ks fn fl fx fb a1 a2 a3 a4 a5 a6 a7 a8 a9 a10 a11 a12 := by
    unfold wL_lawOf_360
    exact h361 _
  unfold wL_lawOf_343
  exact br_c (fun _ => h360) (fun _ => br_c (fun _ => h360) (fun _ => h361 _))
theorem wt_316b {post : Int32 → St0 → Prop} {mc ms kc ks n : Nat} {x1 fl fx fb : Int32} {a1 a2 a3 a4 a5 a6 a7 a8 a9 a10 a11 a12 : Nat → Int32} (b : wt_bad n x1) (P : post 1 ()) (x2 x3 x4 x8 x9 x10 x11 z0 : Int32) : wL_lawOf_316 post mc ms x1 x2 x3 x4 x8 x9 x10 x11 0 z0 kc ks (nI n) fl fx fb a1 a2 a3 a4 a5 a6 a7 a8 a9 a10 a11 a12 := by
  have h343 : ∀ z, wL_lawOf_343 post mc ms x1 x2 x3 x8 x9 x10 x11 0 z0 z kc ks (nI n) fl fx fb a1 a2 a3 a4 a5 a6 a7 a8 a9 a10 a11 a12 := fun z => wt_343a (fun _ _ => wt_394b b P _ _ _ _ _ _ _ _ _ _)
  have h342 : wL_lawOf_342 post mc ms x1 x2 x3 x8 x9 x10 x11 0 z0 kc ks (nI n) fl fx fb a1 a2 a3 a4 a5 a6 a7 a8 a9 a10 a11 a12 := by
    unfold wL_lawOf_342
    exact h343 _
  unfold wL_lawOf_316
  exact br_c (fun _ => h342) (fun _ => br_c (fun _ => h342) (fun _ => br_c (fun _ => h342) (fun _ => br_c (fun _ => h342) (fun _ => h343 _))))
/-- the constructor leaves n rows -/
def wt_ini (n : Nat) (x0 : Int32) : Prop := ∀ post : St2 → Prop, post (nI n, 0, 0, 0, (fun _ => 0), (fun _ => 0), (fun _ => 0), (fun _ => 0), (fun _ => 0), (fun _ => 0), (fun _ => 0), (fun _ => 0), (fun _ => 0), (fun _ => 0), (fun _ => 0), (fun _ => 0)) → wpX_init post 12 2967 (0, 0, 0, 0) x0
theorem wt_213b {post : Int32 → St0 → Prop} {n : Nat} {x0 x1 : Int32} (hi : wt_ini n x0) (b : wt_bad n x1) (P : post 1 ()) (x2 x3 x8 x9 x10 x11 : Int32) : wL_lawOf_213 post 13 2983 x0 x1 x2 x3 (nI n) x8 x9 x10 x11 0 0 0 := by
  unfold wL_lawOf_213
  refine ⟨by omega, by omega, 12, 2967, by omega, by omega, hi _ ?_⟩
  refine br_t rfl (wt_size_bad b rfl (br_t rfl ?_))
  unfold wL_lawOf_271
  exact br_t rfl (br_c (fun _ => wt_316b b P _ _ _ _ _ _ _ _) (fun _ => br_c (fun _ => wt_316b b P _ _ _ _ _ _ _ _) (fun _ => br_c (fun _ => wt_316b b P _ _ _ _ _ _ _ _) (fun _ => br_c (fun _ => wt_316b b P _ _ _ _ _ _ _ _) (fun _ => wt_316b b P _ _ _ _ _ _ _ _)))))
theorem wt_487g {post : Int32 → St0 → Prop} {mc ms kc ks n : Nat} {r : Nat → Nat} {z fl fx fb : Int32} {a1 a2 a3 a4 a5 a6 a7 a8 a9 a10 a11 a12 : Nat → Int32} (g : wt_G n r) (P : post 1 ()) : wL_lawOf_487 post mc ms (nI (wt_cd r n)) 1 z z kc ks (nI n) fl fx fb a1 a2 a3 a4 a5 a6 a7 a8 a9 a10 a11 a12 := by
  unfold wL_lawOf_487
  refine br_t rfl (wt_over g rfl (wt_mult g rfl (fun u => ?_)))
  obtain ⟨_, _, _, _, _, _, _, _, _, _, _, _, _, _, _, _⟩ := u
  exact br_f (by decide) (br_t rfl (br_f (by decide) (br_t rfl P)))
theorem wt_pr4 {r : Nat → Nat} {n : Nat} (h2 : 2 ≤ n) (hn : n ≤ 4) (hz : ∀ j, n ≤ j → r j = 0) : wt_pr r n = (r 0 - r 1 + 1) * (r 1 - r 2 + 1) * (r 2 - r 3 + 1) * (r 3 + 1) := by
  rcases (by omega : n = 2 ∨ n = 3 ∨ n = 4) with h | h | h
  · subst h
    have z2 := hz 2 (by omega)
    have z3 := hz 3 (by omega)
    show 1 * (r 0 - r 1 + 1) * (r 1 - r 2 + 1) = _
    rw [z2, z3]
    simp
  · subst h
    have z3 := hz 3 (by omega)
    show 1 * (r 0 - r 1 + 1) * (r 1 - r 2 + 1) * (r 2 - r 3 + 1) = _
    rw [z3]
    simp
  · subst h
    have z4 := hz 4 (by omega)
    show 1 * (r 0 - r 1 + 1) * (r 1 - r 2 + 1) * (r 2 - r 3 + 1) * (r 3 - r 4 + 1) = _
    rw [z4]
    simp
theorem wt_435g {post : Int32 → St0 → Prop} {mc ms kc ks n : Nat} {r : Nat → Nat} {z fl fx fb : Int32} {a1 a2 a3 a4 a5 a6 a7 a8 a9 a10 a11 a12 : Nat → Int32} (g : wt_G n r) (P : post 1 ()) : wL_lawOf_435 post mc ms (nI (wt_cd r n)) (nI (r 0)) (nI (r 1)) (nI (r 2)) (nI (r 3)) 1 z z kc ks (nI n) fl fx fb a1 a2 a3 a4 a5 a6 a7 a8 a9 a10 a11 a12 := by
  have e : ((((nI (r 0) - nI (r 1)) + 1) * ((nI (r 1) - nI (r 2)) + 1)) * ((nI (r 2) - nI (r 3)) + 1)) * (nI (r 3) + 1) = nI (wt_pr r n) := by
    rw [pk_sub (g.2.2.2.1 0), pk_sub (g.2.2.2.1 1), pk_sub (g.2.2.2.1 2), nI_1, nI_1, nI_1, nI_1, pk_mul, pk_mul, pk_mul, wt_pr4 g.1 g.2.1 g.2.2.1]
  unfold wL_lawOf_435
  rw [e]
  exact br_t rfl (wt_strips g rfl (br_f (by decide) (wt_487g g P)))
theorem wt_394n {post : Int32 → St0 → Prop} {mc ms kc ks n : Nat} {r : Nat → Nat} {x2 x3 x16 z0 z1 fl fx fb : Int32} {a1 a2 a3 a4 a5 a6 a7 a8 a9 a10 a11 a12 : Nat → Int32} (g : wt_G n r) (P : post 1 ()) (hh : ∀ q : Int32 → Prop, q (-2) → wpX_hook q (nI n, fl, fx, fb, a1, a2, a3, a4, a5, a6, a7, a8, a9, a10, a11, a12) (nI (wt_cd r n)) x2 x3) : wL_lawOf_394 post mc ms (nI (wt_cd r n)) x2 x3 (nI (r 0)) (nI (r 1)) (nI (r 2)) (nI (r 3)) 1 x16 0 z0 z1 kc ks (nI n) fl fx fb a1 a2 a3 a4 a5 a6 a7 a8 a9 a10 a11 a12 := by
  unfold wL_lawOf_394
  exact nm_e (hh _ (br_f (by decide) (br_t rfl (wt_435g g P))))
theorem wt_394g {post : Int32 → St0 → Prop} {mc ms kc ks n : Nat} {r : Nat → Nat} {x2 x3 x16 z0 z1 y fl fx fb : Int32} {a1 a2 a3 a4 a5 a6 a7 a8 a9 a10 a11 a12 : Nat → Int32} (g : wt_G n r) (P : post 1 ()) (ez : z1 + z0 = y) (hh : ∀ q : Int32 → Prop, q ((x16 - x3) + y) → wpX_hook q (nI n, fl, fx, fb, a1, a2, a3, a4, a5, a6, a7, a8, a9, a10, a11, a12) (nI (wt_cd r n)) x2 x3) : wL_lawOf_394 post mc ms (nI (wt_cd r n)) x2 x3 (nI (r 0)) (nI (r 1)) (nI (r 2)) (nI (r 3)) 1 x16 1 z0 z1 kc ks (nI n) fl fx fb a1 a2 a3 a4 a5 a6 a7 a8 a9 a10 a11 a12 := by
  unfold wL_lawOf_394
  exact nm_r ez (hh _ (br_f (by decide) (br_f (by decide) (wt_435g g P))))
/-- how many of the rows 1, 2, 3 lie below i and reach behind k -/
def wt_b1 (r : Nat → Nat) (i k m : Nat) : Nat := if i < m ∧ k < r m then 1 else 0
theorem wt_377g {post : Int32 → St0 → Prop} {mc ms kc ks n i k p q : Nat} {r : Nat → Nat} {x16 z0 z1 fl fx fb : Int32} {a1 a2 a3 a4 a5 a6 a7 a8 a9 a10 a11 a12 : Nat → Int32} (g : wt_G n r) (P : post 1 ()) (hi : i < 4) (hk : k ≤ 9) (e1 : z1 = nI p) (e0 : z0 = nI q) (hh : ∀ s : Int32 → Prop, s ((x16 - nI k) + nI (p + q + wt_b1 r i k 3)) → wpX_hook s (nI n, fl, fx, fb, a1, a2, a3, a4, a5, a6, a7, a8, a9, a10, a11, a12) (nI (wt_cd r n)) (nI i) (nI k)) : wL_lawOf_377 post mc ms (nI (wt_cd r n)) (nI i) (nI k) (nI (r 0)) (nI (r 1)) (nI (r 2)) (nI (r 3)) 1 x16 1 z0 z1 kc ks (nI n) fl fx fb a1 a2 a3 a4 a5 a6 a7 a8 a9 a10 a11 a12 := by
  subst e1 e0
  have h9 := wt_G9 g 3
  have h393 : ¬ (i < 3 ∧ k < r 3) → wL_lawOf_393 post mc ms (nI (wt_cd r n)) (nI i) (nI k) (nI (r 0)) (nI (r 1)) (nI (r 2)) (nI (r 3)) 1 x16 1 (nI p + nI q) kc ks (nI n) fl fx fb a1 a2 a3 a4 a5 a6 a7 a8 a9 a10 a11 a12 := by
    intro c
    unfold wL_lawOf_393
    refine wt_394g g P (y := nI (p + q + wt_b1 r i k 3)) ?_ hh
    unfold wt_b1
    rw [if_neg c, show (0 : Int32) = nI 0 from rfl, nI_add, nI_add]
  unfold wL_lawOf_377
  refine pk_le 3 i (fun c => h393 (fun t => absurd t.1 (by omega))) (fun c => pk_le (r 3) k (fun c2 => h393 (fun t => absurd t.2 (by omega))) (fun c2 => ?_))
  refine wt_394g g P (y := nI (p + q + wt_b1 r i k 3)) ?_ hh
  unfold wt_b1
  rw [if_pos ⟨c, c2⟩, show (1 : Int32) = nI 1 from rfl, nI_add, nI_add]
theorem wt_361g {post : Int32 → St0 → Prop} {mc ms kc ks n i k p : Nat} {r : Nat → Nat} {x16 z0 fl fx fb : Int32} {a1 a2 a3 a4 a5 a6 a7 a8 a9 a10 a11 a12 : Nat → Int32} (g : wt_G n r) (P : post 1 ()) (hi : i < 4) (hk : k ≤ 9) (e0 : z0 = nI p) (hh : ∀ s : Int32 → Prop, s ((x16 - nI k) + nI (p + wt_b1 r i k 2 + wt_b1 r i k 3)) → wpX_hook s (nI n, fl, fx, fb, a1, a2, a3, a4, a5, a6, a7, a8, a9, a10, a11, a12) (nI (wt_cd r n)) (nI i) (nI k)) : wL_lawOf_361 post mc ms (nI (wt_cd r n)) (nI i) (nI k) (nI (r 0)) (nI (r 1)) (nI (r 2)) (nI (r 3)) 1 x16 1 z0 kc ks (nI n) fl fx fb a1 a2 a3 a4 a5 a6 a7 a8 a9 a10 a11 a12 := by
  have h9 := wt_G9 g 2
  have h376 : ¬ (i < 2 ∧ k < r 2) → wL_lawOf_376 post mc ms (nI (wt_cd r n)) (nI i) (nI k) (nI (r 0)) (nI (r 1)) (nI (r 2)) (nI (r 3)) 1 x16 1 z0 kc ks (nI n) fl fx fb a1 a2 a3 a4 a5 a6 a7 a8 a9 a10 a11 a12 := by
    intro c
    unfold wL_lawOf_376
    refine wt_377g (q := wt_b1 r i k 2) g P hi hk e0 ?_ hh
    unfold wt_b1
    rw [if_neg c]
    rfl
  unfold wL_lawOf_361
  refine pk_le 2 i (fun c => h376 (fun t => absurd t.1 (by omega))) (fun c => pk_le (r 2) k (fun c2 => h376 (fun t => absurd t.2 (by omega))) (fun c2 => ?_))
  refine wt_377g (q := wt_b1 r i k 2) g P hi hk e0 ?_ hh
  unfold wt_b1
  rw [if_pos ⟨c, c2⟩]
  rfl
theorem wt_343g {post : Int32 → St0 → Prop} {mc ms kc ks n i k : Nat} {r : Nat → Nat} {x16 fl fx fb : Int32} {a1 a2 a3 a4 a5 a6 a7 a8 a9 a10 a11 a12 : Nat → Int32} (g : wt_G n r) (P : post 1 ()) (hi : i < 4) (hk : k ≤ 9) (hh : ∀ s : Int32 → Prop, s ((x16 - nI k) + nI (wt_b1 r i k 1 + wt_b1 r i k 2 + wt_b1 r i k 3)) → wpX_hook s (nI n, fl, fx, fb, a1, a2, a3, a4, a5, a6, a7, a8, a9, a10, a11, a12) (nI (wt_cd r n)) (nI i) (nI k)) : wL_lawOf_343 post mc ms (nI (wt_cd r n)) (nI i) (nI k) (nI (r 0)) (nI (r 1)) (nI (r 2)) (nI (r 3)) 1 x16 1 kc ks (nI n) fl fx fb a1 a2 a3 a4 a5 a6 a7 a8 a9 a10 a11 a12 := by
  have h9 := wt_G9 g 1
  have h360 : ¬ (i < 1 ∧ k < r 1) → wL_lawOf_360 post mc ms (nI (wt_cd r n)) (nI i) (nI k) (nI (r 0)) (nI (r 1)) (nI (r 2)) (nI (r 3)) 1 x16 1 kc ks (nI n) fl fx fb a1 a2 a3 a4 a5 a6 a7 a8 a9 a10 a11 a12 := by
    intro c
    unfold wL_lawOf_360
    refine wt_361g (p := wt_b1 r i k 1) g P hi hk ?_ hh
    unfold wt_b1
    rw [if_neg c]
    rfl
  unfold wL_lawOf_343
  refine pk_le 1 i (fun c => h360 (fun t => absurd t.1 (by omega))) (fun c => pk_le (r 1) k (fun c2 => h360 (fun t => absurd t.2 (by omega))) (fun c2 => ?_))
  refine wt_361g (p := wt_b1 r i k 1) g P hi hk ?_ hh
  unfold wt_b1
  rw [if_pos ⟨c, c2⟩]
  rfl
theorem wt_blb {r : Nat → Nat} {n i k : Nat} (h2 : 2 ≤ n) (hn : n ≤ 4) (hi : i < n) (hz : ∀ j, n ≤ j → r j = 0) : wt_bl r k (i + 1) (n - (i + 1)) = wt_b1 r i k 1 + wt_b1 r i k 2 + wt_b1 r i k 3 := by
  have hb : ∀ m, n ≤ m → wt_b1 r i k m = 0 := by
    intro m hm
    unfold wt_b1
    rw [hz m hm, if_neg (by omega)]
  have hc : ∀ m, m ≤ i → wt_b1 r i k m = 0 := by
    intro m hm
    unfold wt_b1
    rw [if_neg (by omega)]
  have hd : ∀ m, i < m → wt_b1 r i k m = if k < r m then 1 else 0 := by
    intro m hm
    unfold wt_b1
    by_cases c : k < r m
    · rw [if_pos c, if_pos ⟨hm, c⟩]
    · rw [if_neg c, if_neg (fun t => c t.2)]
  rcases (by omega : n = 2 ∨ n = 3 ∨ n = 4) with h | h | h
  · subst h
    rcases (by omega : i = 0 ∨ i = 1) with e | e
    · subst e
      rw [hb 2 (by omega), hb 3 (by omega), hd 1 (by omega)]
      show 0 + (if k < r 1 then 1 else 0) = _
      omega
    · subst e
      rw [hb 2 (by omega), hb 3 (by omega), hc 1 (by omega)]
      rfl
  · subst h
    rcases (by omega : i = 0 ∨ i = 1 ∨ i = 2) with e | e | e
    · subst e
      rw [hb 3 (by omega), hd 1 (by omega), hd 2 (by omega)]
      show 0 + (if k < r 1 then 1 else 0) + (if k < r 2 then 1 else 0) = _
      omega
    · subst e
      rw [hb 3 (by omega), hc 1 (by omega), hd 2 (by omega)]
      show 0 + (if k < r 2 then 1 else 0) = _
      omega
    · subst e
      rw [hb 3 (by omega), hc 1 (by omega), hc 2 (by omega)]
      rfl
  · subst h
    rcases (by omega : i = 0 ∨ i = 1 ∨ i = 2 ∨ i = 3) with e | e | e | e
    · subst e
      rw [hd 1 (by omega), hd 2 (by omega), hd 3 (by omega)]
      show 0 + (if k < r 1 then 1 else 0) + (if k < r 2 then 1 else 0) + (if k < r 3 then 1 else 0) = _
      omega
    · subst e
      rw [hc 1 (by omega), hd 2 (by omega), hd 3 (by omega)]
      show 0 + (if k < r 2 then 1 else 0) + (if k < r 3 then 1 else 0) = _
      omega
    · subst e
      rw [hc 1 (by omega), hc 2 (by omega), hd 3 (by omega)]
      show 0 + (if k < r 3 then 1 else 0) = _
      omega
    · subst e
      rw [hc 1 (by omega), hc 2 (by omega), hc 3 (by omega)]
      rfl
theorem wt_316g {post : Int32 → St0 → Prop} {mc ms kc ks n : Nat} {r : Nat → Nat} {x2 x3 z0 fl fx fb : Int32} {a1 a2 a3 a4 a5 a6 a7 a8 a9 a10 a11 a12 : Nat → Int32} (g : wt_G n r) (P : post 1 ()) (hl : ∀ i, i < n → x2 = nI i → z0 = nI (r i)) : wL_lawOf_316 post mc ms (nI (wt_cd r n)) x2 x3 (nI n) (nI (r 0)) (nI (r 1)) (nI (r 2)) (nI (r 3)) 1 z0 kc ks (nI n) fl fx fb a1 a2 a3 a4 a5 a6 a7 a8 a9 a10 a11 a12 := by
  have hn := g.2.1
  have no : (x2 < 0 ∨ nI n ≤ x2 ∨ x3 < 0 ∨ ∃ i, i < n ∧ x2 = nI i ∧ nI (r i) ≤ x3) → wL_lawOf_342 post mc ms (nI (wt_cd r n)) x2 x3 (nI (r 0)) (nI (r 1)) (nI (r 2)) (nI (r 3)) 1 z0 kc ks (nI n) fl fx fb a1 a2 a3 a4 a5 a6 a7 a8 a9 a10 a11 a12 := by
    intro c
    unfold wL_lawOf_342
    exact wt_343a (fun _ _ => wt_394n g P (fun q hq => wt_hook_no g rfl c hq))
  unfold wL_lawOf_316
  refine br_c (fun c => no (Or.inl c)) (fun c1 => br_c (fun c => no (Or.inr (Or.inl c))) (fun c2 => br_c (fun c => no (Or.inr (Or.inr (Or.inl c)))) (fun c3 => ?_)))
  rcases pk_ix x2 (show n < 2 ^ 31 by omega) with c | c | ⟨i, hi, e⟩
  · exact absurd c c1
  · exact absurd c c2
  · have ez := hl i hi e
    subst e ez
    refine br_c (fun c => no (Or.inr (Or.inr (Or.inr ⟨i, hi, rfl, c⟩)))) (fun c4 => ?_)
    obtain ⟨k, hk, e3⟩ := nI_of c3
    subst e3
    have h9 := wt_G9 g i
    have hki : k < r i := by
      rw [nI_leI (by omega) hk] at c4
      omega
    refine wt_343g g P (by omega) (by omega) (fun s hs => ?_)
    refine wt_hook g rfl hi hki ?_
    rw [wt_blb g.1 hn hi g.2.2.1]
    exact hs
theorem wt_213g {post : Int32 → St0 → Prop} {n : Nat} {r : Nat → Nat} {x0 : Int32} (hi : wt_ini n x0) (g : wt_G n r) (P : post 1 ()) (x2 x3 : Int32) : wL_lawOf_213 post 13 2983 x0 (nI (wt_cd r n)) x2 x3 (nI n) (nI (r 0)) (nI (r 1)) (nI (r 2)) (nI (r 3)) 1 0 0 := by
  have hn := g.2.1
  unfold wL_lawOf_213
  refine ⟨by omega, by omega, 12, 2967, by omega, by omega, hi _ ?_⟩
  refine br_t rfl (wt_size g rfl (br_f (by decide) ?_))
  unfold wL_lawOf_271
  refine br_t ?_ (br_c (fun c => wt_316g g P (fun i hi e => ?_)) (fun c0 => br_c (fun c => wt_316g g P (fun i hi e => ?_)) (fun c1 => br_c (fun c => wt_316g g P (fun i hi e => ?_)) (fun c2 => br_c (fun c => wt_316g g P (fun i hi e => ?_)) (fun c3 => wt_316g g P (fun i hi e => ?_))))))
  · rw [wt_sum4 g.1 hn g.2.2.1, nI_add, nI_add, nI_add]
  · have e2 : nI 0 = nI i := c.symm.trans e
    rw [nI_eq (by omega) (by omega)] at e2
    rw [e2]
  · have e2 : nI 1 = nI i := c.symm.trans e
    rw [nI_eq (by omega) (by omega)] at e2
    rw [e2]
  · have e2 : nI 2 = nI i := c.symm.trans e
    rw [nI_eq (by omega) (by omega)] at e2
    rw [e2]
  · have e2 : nI 3 = nI i := c.symm.trans e
    rw [nI_eq (by omega) (by omega)] at e2
    rw [e2]
  · exfalso
    rcases (by omega : i = 0 ∨ i = 1 ∨ i = 2 ∨ i = 3) with h | h | h | h
    · exact c0 (by rw [e, h]; rfl)
    · exact c1 (by rw [e, h]; rfl)
    · exact c2 (by rw [e, h]; rfl)
    · exact c3 (by rw [e, h]; rfl)
end
section
theorem wt_164 {post : Int32 → St0 → Prop} {n a b d e : Nat} {x0 : Int32} (hi : wt_ini n x0) (P : post 1 ()) (h2 : 2 ≤ n) (hn : n ≤ 4) (ha : a ≤ 9) (hb : b ≤ 9) (hd : d ≤ 9) (he : e ≤ 9) (hz : ∀ i, n ≤ i → wt_dg a b d e i = 0) (x2 x3 : Int32) : wL_lawOf_164 post 13 2983 x0 (nI (wt_cd (wt_dg a b d e) n)) x2 x3 (nI n) 1 (nI a) (nI b) (nI d) (nI e) 0 0 := by
  have hr : ∀ i, i < n → wt_dg a b d e i ≤ 9 := fun i hi => wt_4 (p := fun i => wt_dg a b d e i ≤ 9) ha hb hd he i (by omega)
  have hs : wt_sum (wt_dg a b d e) n = a + b + d + e := wt_sum4 h2 hn hz
  have bad : ¬ wt_ok (wt_dg a b d e) n → wL_lawOf_212 post 13 2983 x0 (nI (wt_cd (wt_dg a b d e) n)) x2 x3 (nI n) (nI a) (nI b) (nI d) (nI e) 0 0 := by
    intro c
    unfold wL_lawOf_212
    exact wt_213b hi (fun u hu q hq => wt_isShape hu hn (by omega) hr (fun t => absurd t c) (fun _ => hq)) P _ _ _ _ _ _
  have z2 : n = 2 → d = 0 := fun h => hz 2 (by omega)
  have z3 : n ≤ 3 → e = 0 := fun h => hz 3 (by omega)
  unfold wL_lawOf_164
  refine br_f (by decide) (pk_lt a b (fun c => bad (fun t => ?_)) (fun c1 => pk_lt b d (fun c => bad (fun t => ?_)) (fun c2 => pk_lt d e (fun c => bad (fun t => ?_)) (fun c3 => pk_lt 9 (a + b + d + e) (fun c => bad (fun t => ?_)) (fun c4 => ?_) rfl (by rw [nI_add, nI_add, nI_add])))))
  · have t1 : b ≤ a := t.2 0 (by omega)
    omega
  · have t1 : d ≤ b := t.2 1 (by omega)
    omega
  · have t1 : e ≤ d := t.2 2 (by omega)
    omega
  · have t1 := t.1
    omega
  · have g : wt_G n (wt_dg a b d e) := by
      refine ⟨h2, hn, hz, fun i => ?_, by omega⟩
      rcases (by omega : i = 0 ∨ i = 1 ∨ i = 2 ∨ 3 ≤ i) with h | h | h | h
      · subst h
        exact c1
      · subst h
        exact c2
      · subst h
        exact c3
      · rw [hz (i + 1) (by omega)]
        omega
    exact wt_213g hi g P x2 x3
theorem wt_93 {post : Int32 → St0 → Prop} {n C c : Nat} {x0 : Int32} (hi : wt_ini n x0) (P : post 1 ()) (h2 : 2 ≤ n) (hn : n ≤ 4) (hc : c < 10000) (hz : ∀ i, n ≤ i → wt_dg (c / 1000) (c / 100 % 10) (c / 10 % 10) (c % 10) i = 0) (hC : wt_cd (wt_dg (c / 1000) (c / 100 % 10) (c / 10 % 10) (c % 10)) n = C) (x2 x3 : Int32) : wL_lawOf_93 post 13 2983 x0 (nI C) x2 x3 (nI n) (nI c) 1 0 0 := by
  have t := wt_164 hi P h2 hn (show c / 1000 ≤ 9 by omega) (show c / 100 % 10 ≤ 9 by omega) (show c / 10 % 10 ≤ 9 by omega) (show c % 10 ≤ 9 by omega) hz x2 x3
  rw [hC] at t
  have ea : nI c / 1000 = nI (c / 1000) := pk_div (d := 1000) (by omega) (by decide) (by decide)
  have eb : (nI c / 100) - (nI c / 100) / 10 * 10 = nI (c / 100 % 10) := by
    rw [show nI c / 100 = nI (c / 100) from pk_div (d := 100) (by omega) (by decide) (by decide)]
    exact pk_rem (d := 10) (by omega) (by decide) (by decide)
  have ed : (nI c / 10) - (nI c / 10) / 10 * 10 = nI (c / 10 % 10) := by
    rw [show nI c / 10 = nI (c / 10) from pk_div (d := 10) (by omega) (by decide) (by decide)]
    exact pk_rem (d := 10) (by omega) (by decide) (by decide)
  have ee : nI c - nI c / 10 * 10 = nI (c % 10) := pk_rem (d := 10) (by omega) (by decide) (by decide)
  unfold wL_lawOf_93
  rw [ea]
  refine br_f (by decide) ⟨by decide, ?_⟩
  unfold wL_lawOf_110
  rw [eb]
  refine br_f (by decide) ⟨by decide, by decide, ?_⟩
  unfold wL_lawOf_129
  rw [ed]
  refine br_f (by decide) ⟨by decide, by decide, ?_⟩
  unfold wL_lawOf_148
  rw [ee]
  exact br_f (by decide) ⟨by decide, t⟩
theorem wt_92 {post : Int32 → St0 → Prop} {n : Nat} {x0 x1 : Int32} (hi : wt_ini n x0) (P : post 1 ()) (b : wt_bad n x1) (x2 x3 x6 : Int32) : wL_lawOf_92 post 13 2983 x0 x1 x2 x3 (nI n) x6 0 0 := by
  unfold wL_lawOf_92 wL_lawOf_93
  refine br_t rfl ?_
  unfold wL_lawOf_110
  refine br_t rfl ?_
  unfold wL_lawOf_129
  refine br_t rfl ?_
  unfold wL_lawOf_148
  refine br_t rfl ?_
  unfold wL_lawOf_164
  refine br_t rfl ?_
  unfold wL_lawOf_212
  exact wt_213b hi b P _ _ _ _ _ _
theorem wt_76 {post : Int32 → St0 → Prop} {n : Nat} {x0 x1 x5 z0 : Int32} (hi : wt_ini n x0) (P : post 1 ()) (h2 : 2 ≤ n) (hn : n ≤ 4) (e5 : x5 = nI (10 ^ n)) (ez : ∀ C, x1 = nI C → C < 10 ^ n → ∃ c, z0 = nI c ∧ c < 10000 ∧ (∀ i, n ≤ i → wt_dg (c / 1000) (c / 100 % 10) (c / 10 % 10) (c % 10) i = 0) ∧ wt_cd (wt_dg (c / 1000) (c / 100 % 10) (c / 10 % 10) (c % 10)) n = C) (x2 x3 : Int32) : wL_lawOf_76 post 13 2983 x0 x1 x2 x3 (nI n) x5 z0 0 0 := by
  subst e5
  have h4 : 10 ^ n ≤ 10 ^ 4 := wt_p10 hn
  unfold wL_lawOf_76
  refine br_c (fun c => wt_92 hi P (fun u hu q hq => wt_isShape_out hu hn (Or.inl c) hq) _ _ _) (fun c1 => br_c (fun c => wt_92 hi P (fun u hu q hq => wt_isShape_out hu hn (Or.inr c) hq) _ _ _) (fun c2 => ?_))
  obtain ⟨C, hC, e⟩ := nI_of c1
  subst e
  have hlt : C < 10 ^ n := by
    rw [nI_leI (by omega) hC] at c2
    omega
  obtain ⟨c, e1, e2, e3, e4⟩ := ez C rfl hlt
  subst e1
  exact wt_93 hi P h2 hn e2 e3 e4 x2 x3
theorem wt_dg0 {a b d e i : Nat} (h : 4 ≤ i) : wt_dg a b d e i = 0 := by
  obtain ⟨j, rfl⟩ : ∃ j, i = j + 4 := ⟨i - 4, by omega⟩
  rfl
theorem wt_19 {post : Int32 → St0 → Prop} {n : Nat} {x0 x1 : Int32} (hi : wt_ini n x0) (P : post 1 ()) (h2 : 2 ≤ n) (hn : n ≤ 4) (x2 x3 : Int32) : wL_lawOf_19 post 13 2983 x0 x1 x2 x3 (nI n) 0 0 := by
  unfold wL_lawOf_19
  refine pk_eq n 2 (fun c => ?_) (fun c2 => pk_eq n 3 (fun c => ?_) (fun c3 => ?_))
  · subst c
    unfold wL_lawOf_47
    refine br_t rfl (wt_76 hi P h2 hn (by rfl) (fun C e hC => ⟨C * 100, by rw [e]; exact pk_mul C 100, by omega, fun i h => ?_, ?_⟩) x2 x3)
    · rcases (by omega : i = 2 ∨ i = 3 ∨ 4 ≤ i) with g | g | g
      · subst g
        show C * 100 / 10 % 10 = 0
        omega
      · subst g
        show C * 100 % 10 = 0
        omega
      · exact wt_dg0 g
    · show 10 * (10 * 0 + C * 100 / 1000) + C * 100 / 100 % 10 = C
      omega
  · subst c
    unfold wL_lawOf_47
    refine br_f (by decide) (br_t rfl (wt_76 hi P h2 hn (by rfl) (fun C e hC => ⟨C * 10, by rw [e]; exact pk_mul C 10, by omega, fun i h => ?_, ?_⟩) x2 x3))
    · rcases (by omega : i = 3 ∨ 4 ≤ i) with g | g
      · subst g
        show C * 10 % 10 = 0
        omega
      · exact wt_dg0 g
    · show 10 * (10 * (10 * 0 + C * 10 / 1000) + C * 10 / 100 % 10) + C * 10 / 10 % 10 = C
      omega
  · have c4 : n = 4 := by omega
    subst c4
    unfold wL_lawOf_47
    refine br_f (by decide) (br_f (by decide) (wt_76 hi P h2 hn (by rfl) (fun C e hC => ⟨C, e, by omega, fun i h => wt_dg0 h, ?_⟩) x2 x3))
    show 10 * (10 * (10 * (10 * 0 + C / 1000) + C / 100 % 10) + C / 10 % 10) + C % 10 = C
    omega
theorem wt_ini2 {x0 : Int32} (h : ¬ 2 ≤ x0) : wt_ini 2 x0 := by
  intro post H
  exact ⟨by omega, by omega, by omega, by omega, by omega, by omega, by omega, by omega, by omega, by omega, by omega, by omega, by omega, by omega, by omega, by omega, by omega, by omega, by omega, by omega, by omega, by omega, by omega, by omega, br_f h (br_t (by decide) H)⟩
theorem wt_ini4 {x0 : Int32} (h : 2 ≤ x0) (h4 : ¬ x0 ≤ 4) : wt_ini 4 x0 := by
  intro post H
  exact ⟨by omega, by omega, by omega, by omega, by omega, by omega, by omega, by omega, by omega, by omega, by omega, by omega, by omega, by omega, by omega, by omega, by omega, by omega, by omega, by omega, by omega, by omega, by omega, by omega, br_t h (br_f h4 H)⟩
theorem wt_ini3 {x0 : Int32} {n : Nat} (h : 2 ≤ x0) (h4 : x0 ≤ 4) (e : x0 = nI n) : wt_ini n x0 := by
  intro post H
  subst e
  exact ⟨by omega, by omega, by omega, by omega, by omega, by omega, by omega, by omega, by omega, by omega, by omega, by omega, by omega, by omega, by omega, by omega, by omega, by omega, by omega, by omega, by omega, by omega, by omega, by omega, br_t h (br_t h4 H)⟩
theorem wt_lawOf {post : Int32 → St0 → Prop} (P : post 1 ()) (p0 p1 p2 p3 : Int32) : wpL_lawOf post 13 2983 () p0 p1 p2 p3 := by
  unfold wpL_lawOf
  refine br_c (fun c => br_c (fun c4 => ?_) (fun c4 => wt_19 (n := 4) (wt_ini4 c c4) P (by omega) (by omega) p2 p3)) (fun c => wt_19 (n := 2) (wt_ini2 c) P (by omega) (by omega) p2 p3)
  have h0 : ¬ p0 < 0 := by
    intro z
    have q : (2 : Int32) < 0 := Int32.lt_of_le_of_lt c z
    exact absurd q (by decide)
  obtain ⟨n, hn, e⟩ := nI_of2 (M := 4) (n := 4) (by decide) h0 c4
  subst e
  have c' : nI 2 ≤ nI n := c
  have h2 : 2 ≤ n := by
    rw [nI_leI (by omega) (by omega)] at c'
    exact c'
  exact wt_19 (wt_ini3 c c4 rfl) P h2 hn p2 p3
theorem wt_cell {post : Int32 → Prop} {L : Nat} {xs : Nat → Int32} {u : St0} {p : Int32} (k : Nat) (hL : L ≤ 4) (hk : k ≤ 4) (e : p = nI k) (H : ∀ v, post v) : wpL_cellAt post L xs u p := by
  subst e
  unfold wpL_cellAt
  exact pk_le L k (fun _ => H _) (fun z => ⟨pk_in k L z, H _⟩)
theorem i_vc (xs : Nat → Int32) (L : Nat) (hL : L ≤ 4) : wpL_law (fun r => r = 1) L xs := by
  unfold wpL_law
  refine wt_cell 0 hL (by omega) rfl (fun v0 => wt_cell 1 hL (by omega) rfl (fun v1 => wt_cell 2 hL (by omega) rfl (fun v2 => wt_cell 3 hL (by omega) rfl (fun v3 => ?_))))
  exact ⟨13, 2983, by omega, by omega, wt_lawOf (post := fun r _ => r = 1) rfl v0 v1 v2 v3⟩
end
