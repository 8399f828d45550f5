section
/-! ===== 01: the plain law: needs as the least solution of what the edges ask for ===== -/
/-- what an edge of gain g asks for, when its end has need x; T is the top -/
def eg_ask (T : Nat) (g : Int) (x : Nat) : Nat := if x = T then T else min T ((x : Int) - g).toNat
theorem eg_ask_le (T : Nat) (g : Int) (x : Nat) : eg_ask T g x ≤ T := by
  unfold eg_ask
  split <;> omega
theorem eg_ask_mono {T : Nat} {g : Int} {x y : Nat} (h : x ≤ y) (hy : y ≤ T) : eg_ask T g x ≤ eg_ask T g y := by
  unfold eg_ask
  split <;> split <;> omega
theorem eg_ask_lt {T : Nat} {g : Int} {x : Nat} (h : eg_ask T g x < T) : x ≠ T := by
  intro e
  unfold eg_ask at h
  rw [if_pos e] at h
  omega
/-- a place written -/
def eg_up (f : Nat → Nat) (k x : Nat) : Nat → Nat := fun j => if j = k then x else f j
theorem eg_up_s {f : Nat → Nat} {k x : Nat} : eg_up f k x k = x := if_pos rfl
theorem eg_up_n {f : Nat → Nat} {k x j : Nat} (h : j ≠ k) : eg_up f k x j = f j := if_neg h
/-- what edge e asks for under the needs nd -/
def eg_A (T : Nat) (hd : Nat → Nat) (gn : Nat → Int) (nd : Nat → Nat) (e : Nat) : Nat := eg_ask T (gn e) (nd (hd e))
/-- v's need is enough -/
def eg_Pre (C T : Nat) (tl hd : Nat → Nat) (gn : Nat → Int) (ow : Nat → Int32) (nd : Nat → Nat) (v : Nat) : Prop :=
  (ow v = 0 → (∃ e, e < C ∧ tl e = v) → ∃ e, e < C ∧ tl e = v ∧ eg_A T hd gn nd e ≤ nd v) ∧ (¬ ow v = 0 → ∀ e, e < C → tl e = v → eg_A T hd gn nd e ≤ nd v)
/-- v's need isn't more than asked for -/
def eg_Post (C T : Nat) (tl hd : Nat → Nat) (gn : Nat → Int) (ow : Nat → Int32) (nd : Nat → Nat) (v : Nat) : Prop :=
  nd v = 0 ∨ ((∃ e, e < C ∧ tl e = v ∧ nd v ≤ eg_A T hd gn nd e) ∧ (ow v = 0 → ∀ e, e < C → tl e = v → nd v ≤ eg_A T hd gn nd e))
/-- w is what v's first i edges want -/
def eg_IsW (C T : Nat) (tl hd : Nat → Nat) (gn : Nat → Int) (ow : Nat → Int32) (nd : Nat → Nat) (v w : Nat) : Prop :=
  (w = 0 ∧ ∀ e, e < C → ¬ tl e = v) ∨ ((∃ e, e < C ∧ tl e = v ∧ eg_A T hd gn nd e = w) ∧ (ow v = 0 → ∀ e, e < C → tl e = v → w ≤ eg_A T hd gn nd e) ∧ (¬ ow v = 0 → ∀ e, e < C → tl e = v → eg_A T hd gn nd e ≤ w))
/-- nd lies below every sufficient assignment -/
def eg_Least (N C T : Nat) (tl hd : Nat → Nat) (gn : Nat → Int) (ow : Nat → Int32) (nd : Nat → Nat) : Prop :=
  ∀ m : Nat → Nat, (∀ v, v < N → m v ≤ T) → (∀ v, v < N → eg_Pre C T tl hd gn ow m v) → ∀ v, v < N → nd v ≤ m v
/-- the needs: the least solution -/
def eg_Sol (N C T : Nat) (tl hd : Nat → Nat) (gn : Nat → Int) (ow : Nat → Int32) (nd : Nat → Nat) : Prop :=
  (∀ v, v < N → nd v ≤ T) ∧ (∀ v, v < N → eg_Pre C T tl hd gn ow nd v) ∧ (∀ v, v < N → eg_Post C T tl hd gn ow nd v) ∧ eg_Least N C T tl hd gn ow nd
section
variable {N C T : Nat} {tl hd : Nat → Nat} {gn : Nat → Int} {ow : Nat → Int32} {nd : Nat → Nat} {v w : Nat}
theorem eg_A_mono {m : Nat → Nat} (hh : ∀ e, e < C → hd e < N) (h : ∀ u, u < N → nd u ≤ m u) (hT : ∀ u, u < N → m u ≤ T) {e : Nat} (he : e < C) : eg_A T hd gn nd e ≤ eg_A T hd gn m e :=
  eg_ask_mono (h _ (hh e he)) (hT _ (hh e he))
/-- what is wanted lies below a sufficient assignment -/
theorem eg_want_le {m : Nat → Nat} (hh : ∀ e, e < C → hd e < N) (h : ∀ u, u < N → nd u ≤ m u) (hT : ∀ u, u < N → m u ≤ T) (hW : eg_IsW C T tl hd gn ow nd v w) (hP : eg_Pre C T tl hd gn ow m v) : w ≤ m v := by
  rcases hW with ⟨h0, _⟩ | ⟨⟨e, he, hv, ha⟩, h1, h2⟩
  · omega
  · by_cases ho : ow v = 0
    · obtain ⟨e', he', hv', hl⟩ := hP.1 ho ⟨e, he, hv⟩
      have a := h1 ho e' he' hv'
      have b := eg_A_mono (gn := gn) hh h hT he'
      omega
    · have a := hP.2 ho e he hv
      have b := eg_A_mono (gn := gn) hh h hT he
      omega
/-- a raise keeps the needs least -/
theorem eg_least_up (hh : ∀ e, e < C → hd e < N) (hv : v < N) (hL : eg_Least N C T tl hd gn ow nd) (hW : eg_IsW C T tl hd gn ow nd v w) : eg_Least N C T tl hd gn ow (eg_up nd v w) := by
  intro m hT hP u hu
  by_cases e : u = v
  · subst e
    rw [eg_up_s]
    exact eg_want_le hh (hL m hT hP) hT hW (hP u hu)
  · rw [eg_up_n e]
    exact hL m hT hP u hu
theorem eg_up_ge {u : Nat} (h : nd v ≤ w) : nd u ≤ eg_up nd v w u := by
  by_cases e : u = v
  · subst e
    rw [eg_up_s]
    exact h
  · rw [eg_up_n e]
    exact Nat.le_refl _
theorem eg_up_le (hT : ∀ u, u < N → nd u ≤ T) (hw : w ≤ T) : ∀ u, u < N → eg_up nd v w u ≤ T := by
  intro u hu
  by_cases e : u = v
  · subst e
    rw [eg_up_s]
    exact hw
  · rw [eg_up_n e]
    exact hT u hu
/-- a raise keeps every need asked for -/
theorem eg_post_up (hh : ∀ e, e < C → hd e < N) (hT : ∀ u, u < N → nd u ≤ T) (hw : w ≤ T) (hr : nd v ≤ w) (hW : eg_IsW C T tl hd gn ow nd v w) {u : Nat} (hP : eg_Post C T tl hd gn ow nd u) : eg_Post C T tl hd gn ow (eg_up nd v w) u := by
  have mono : ∀ e, e < C → eg_A T hd gn nd e ≤ eg_A T hd gn (eg_up nd v w) e := fun e he => eg_A_mono hh (fun u _ => eg_up_ge hr) (eg_up_le hT hw) he
  unfold eg_Post
  by_cases e : u = v
  · subst e
    rw [eg_up_s]
    rcases hW with ⟨h0, _⟩ | ⟨⟨e, he, hv, ha⟩, h1, _⟩
    · exact Or.inl h0
    · refine Or.inr ⟨⟨e, he, hv, ?_⟩, fun ho e' he' hv' => ?_⟩
      · have := mono e he
        omega
      · have := mono e' he'
        have := h1 ho e' he' hv'
        omega
  · rw [eg_up_n e]
    rcases hP with h0 | ⟨⟨e, he, hv, ha⟩, h1⟩
    · exact Or.inl h0
    · refine Or.inr ⟨⟨e, he, hv, ?_⟩, fun ho e' he' hv' => ?_⟩
      · have := mono e he
        omega
      · have := mono e' he'
        have := h1 ho e' he' hv'
        omega
theorem eg_A_same {e : Nat} (h : ¬ hd e = v) : eg_A T hd gn (eg_up nd v w) e = eg_A T hd gn nd e := by
  unfold eg_A
  rw [eg_up_n h]
/-- a raise at v leaves enough what doesn't lead to v -/
theorem eg_pre_up {u : Nat} (hn : ∀ e, e < C → tl e = u → ¬ hd e = v) (hW : eg_IsW C T tl hd gn ow nd v w) (hP : u ≠ v → eg_Pre C T tl hd gn ow nd u) : eg_Pre C T tl hd gn ow (eg_up nd v w) u := by
  unfold eg_Pre
  by_cases e : u = v
  · subst e
    rw [eg_up_s]
    rcases hW with ⟨_, h0⟩ | ⟨⟨e, he, hv, ha⟩, _, h2⟩
    · exact ⟨fun _ ⟨e, he, hv⟩ => absurd hv (h0 e he), fun _ e he hv => absurd hv (h0 e he)⟩
    · refine ⟨fun _ _ => ⟨e, he, hv, ?_⟩, fun ho e' he' hv' => ?_⟩
      · rw [eg_A_same (hn e he hv)]
        omega
      · rw [eg_A_same (hn e' he' hv')]
        exact h2 ho e' he' hv'
  · rw [eg_up_n e]
    obtain ⟨h1, h2⟩ := hP e
    refine ⟨fun ho hx => ?_, fun ho e' he' hv' => ?_⟩
    · obtain ⟨e', he', hv', hl⟩ := h1 ho hx
      refine ⟨e', he', hv', ?_⟩
      rw [eg_A_same (hn e' he' hv')]
      exact hl
    · rw [eg_A_same (hn e' he' hv')]
      exact h2 ho e' he' hv'
/-- no raise: v's need is enough -/
theorem eg_pre_of (hW : eg_IsW C T tl hd gn ow nd v w) (h : w ≤ nd v) : eg_Pre C T tl hd gn ow nd v := by
  rcases hW with ⟨_, h0⟩ | ⟨⟨e, he, hv, ha⟩, _, h2⟩
  · exact ⟨fun _ ⟨e, he, hv⟩ => absurd hv (h0 e he), fun _ e he hv => absurd hv (h0 e he)⟩
  · refine ⟨fun _ _ => ⟨e, he, hv, by omega⟩, fun ho e' he' hv' => ?_⟩
    have := h2 ho e' he' hv'
    omega
/-- a vertex with edges has one that asks for just its need -/
theorem eg_choice (hP : eg_Pre C T tl hd gn ow nd v) (hQ : eg_Post C T tl hd gn ow nd v) (hx : ∃ e, e < C ∧ tl e = v) : ∃ e, e < C ∧ tl e = v ∧ eg_A T hd gn nd e = nd v := by
  by_cases ho : ow v = 0
  · obtain ⟨e, he, hv, hl⟩ := hP.1 ho hx
    refine ⟨e, he, hv, ?_⟩
    rcases hQ with h0 | ⟨_, h1⟩
    · omega
    · have := h1 ho e he hv
      omega
  · rcases hQ with h0 | ⟨⟨e, he, hv, ha⟩, _⟩
    · obtain ⟨e, he, hv⟩ := hx
      have := hP.2 ho e he hv
      exact ⟨e, he, hv, by omega⟩
    · have := hP.2 ho e he hv
      exact ⟨e, he, hv, by omega⟩
/-- the keeper at v needs no more than the other player -/
theorem eg_keeper {n0 n1 : Nat → Nat} {x y : Int32} (hx : x = 0) (h0 : eg_Sol N C T tl hd gn (upd ow v x) n0) (h1 : eg_Sol N C T tl hd gn (upd ow v y) n1) : ∀ u, u < N → n0 u ≤ n1 u := by
  refine h0.2.2.2 n1 h1.1 (fun u hu => ?_)
  have hP := h1.2.1 u hu
  have hQ := h1.2.2.1 u hu
  by_cases e : u = v
  · subst e
    refine ⟨fun _ hx => ?_, fun ho => absurd (by rw [pk_us]; exact hx) ho⟩
    obtain ⟨e, he, hv, ha⟩ := eg_choice hP hQ hx
    exact ⟨e, he, hv, by omega⟩
  · unfold eg_Pre at hP ⊢
    rw [pk_un e] at hP ⊢
    exact hP
end
/-! sums -/
def eg_sum (f : Nat → Nat) : Nat → Nat
  | 0 => 0
  | n + 1 => eg_sum f n + f n
theorem eg_sum_eq {f g : Nat → Nat} : ∀ n, (∀ j, j < n → f j = g j) → eg_sum f n = eg_sum g n
  | 0, _ => rfl
  | n + 1, h => by
    show eg_sum f n + f n = eg_sum g n + g n
    rw [eg_sum_eq n (fun j hj => h j (by omega)), h n (by omega)]
theorem eg_sum_up {f g : Nat → Nat} {k : Nat} : ∀ n, k < n → (∀ j, j < n → j ≠ k → g j = f j) → eg_sum g n + f k = eg_sum f n + g k
  | 0, hk, _ => absurd hk (by omega)
  | n + 1, hk, h => by
    show eg_sum g n + g n + f k = eg_sum f n + f n + g k
    by_cases e : k = n
    · subst e
      rw [eg_sum_eq (f := g) (g := f) k (fun j hj => h j (by omega) (by omega))]
      omega
    · have := eg_sum_up n (by omega) (fun j hj hn => h j (by omega) hn)
      have := h n (by omega) (fun z => e z.symm)
      omega
theorem eg_sum_le {f : Nat → Nat} {b : Nat} : ∀ n, (∀ j, j < n → f j ≤ b) → eg_sum f n ≤ n * b
  | 0, _ => by
    show 0 ≤ 0 * b
    omega
  | n + 1, h => by
    show eg_sum f n + f n ≤ (n + 1) * b
    have := eg_sum_le n (fun j hj => h j (by omega))
    have := h n (by omega)
    rw [Nat.add_mul]
    omega
theorem eg_sum_0 {f : Nat → Nat} : ∀ n, eg_sum f n = 0 → ∀ j, j < n → f j = 0
  | 0, _, j, hj => absurd hj (by omega)
  | n + 1, h, j, hj => by
    have h' : eg_sum f n + f n = 0 := h
    by_cases e : j = n
    · rw [e]
      omega
    · exact eg_sum_0 n (by omega) j (by omega)
theorem eg_sum_c {f : Nat → Nat} {b : Nat} : ∀ n, (∀ j, j < n → f j = b) → eg_sum f n = n * b
  | 0, _ => by
    show 0 = 0 * b
    omega
  | n + 1, h => by
    show eg_sum f n + f n = (n + 1) * b
    rw [eg_sum_c n (fun j hj => h j (by omega)), h n (by omega), Nat.add_mul]
    omega
end
section
/-! ===== 02: the graph in the object; asked, wantedAt ===== -/
/-- the object's edges are the graph's -/
def eg_W (N C T : Nat) (tl hd : Nat → Nat) (gn : Nat → Int) (a1 a2 a3 : Nat → Int32) : Prop :=
  2 ≤ N ∧ N ≤ 6 ∧ C ≤ 14 ∧ T = 6 * (N - 1) + 1 ∧ ∀ e, e < C → (a1 e = nI (tl e) ∧ tl e < N ∧ a2 e = nI (hd e) ∧ hd e < N ∧ (a3 e).toInt = gn e ∧ -6 ≤ gn e ∧ gn e ≤ 6)
/-- the object's needs are nd -/
def eg_Nd (N T : Nat) (nd : Nat → Nat) (a5 : Nat → Int32) : Prop := ∀ v, v < N → a5 v = nI (nd v) ∧ nd v ≤ T
theorem eg_W_hh {N C T : Nat} {tl hd : Nat → Nat} {gn : Nat → Int} {a1 a2 a3 : Nat → Int32} (hW : eg_W N C T tl hd gn a1 a2 a3) : ∀ e, e < C → hd e < N := fun e he => (hW.2.2.2.2 e he).2.2.2.1
section
variable {N C T : Nat} {tl hd : Nat → Nat} {gn : Nat → Int} {a1 a2 a3 a4 a5 a6 a7 : Nat → Int32} {nd : Nat → Nat} {fn fc sk cur : Int32}
theorem eg_asked {post : Int32 → Prop} {e : Nat} (hW : eg_W N C T tl hd gn a1 a2 a3) (he : e < C) (h5 : eg_Nd N T nd a5) (hp : post (nI (eg_A T hd gn nd e))) : wpX_asked post (fn, fc, nI T, sk, cur, a1, a2, a3, a4, a5, a6, a7) (nI e) := by
  obtain ⟨hN2, hN6, hC, hT, hE⟩ := hW
  obtain ⟨_, _, e2, l2, e3, g1, g2⟩ := hE e he
  obtain ⟨e5, l5⟩ := h5 _ l2
  unfold eg_A at hp
  unfold wpX_asked
  dsimp only
  rw [nI_clamp (show e < 2 ^ 31 by omega), e2, nI_clamp (show hd e < 2 ^ 31 by omega), e5]
  refine ⟨pk_in e 14 (by omega), pk_in (hd e) 6 (by omega), nm_e (pk_eq (nd (hd e)) T (fun z => ?_) (fun z => ⟨pk_in e 14 (by omega), fun y hy => ?_⟩))⟩
  · unfold eg_ask at hp
    rw [if_pos z] at hp
    exact hp
  · have hI : y.toInt = (nd (hd e) : Int) - gn e := by
      rw [hy, Int32.toInt_sub, nI_toInt (by omega), e3]
      exact Int.bmod_eq_of_le (by omega) (by omega)
    have z0 : (0 : Int32).toInt = 0 := by decide
    have zT : (nI T).toInt = (T : Int) := nI_toInt (by omega)
    have hA : eg_ask T (gn e) (nd (hd e)) = min T ((nd (hd e) : Int) - gn e).toNat := if_neg z
    refine br_c (fun c => br_c (fun d => ?_) (fun d => ?_)) (fun c => ?_)
    · rw [Int32.le_iff_toInt_le, zT, hI] at d
      rw [hA, show min T ((nd (hd e) : Int) - gn e).toNat = T by omega] at hp
      exact hp
    · rw [Int32.le_iff_toInt_le, zT, hI] at d
      rw [Int32.le_iff_toInt_le, z0, hI] at c
      have hy2 : y = nI (eg_ask T (gn e) (nd (hd e))) := by
        apply Int32.toInt_inj.mp
        rw [hI, nI_toInt (by rw [hA]; omega), hA]
        omega
      rw [hy2]
      exact hp
    · rw [Int32.le_iff_toInt_le, z0, hI] at c
      rw [hA, show min T ((nd (hd e) : Int) - gn e).toNat = 0 by omega] at hp
      exact hp
/-- what the loop of wantedAt holds behind i edges -/
def eg_WI (T : Nat) (tl hd : Nat → Nat) (gn : Nat → Int) (ow : Nat → Int32) (nd : Nat → Nat) (v i : Nat) (s : Int32) : Prop :=
  (s = -1 ∧ ∀ e, e < i → ¬ tl e = v) ∨ ∃ r, s = nI r ∧ r ≤ T ∧ (∃ e, e < i ∧ tl e = v ∧ eg_A T hd gn nd e = r) ∧ (ow v = 0 → ∀ e, e < i → tl e = v → r ≤ eg_A T hd gn nd e) ∧ (¬ ow v = 0 → ∀ e, e < i → tl e = v → eg_A T hd gn nd e ≤ r)
theorem eg_WI_skip {v i : Nat} {s : Int32} (h : eg_WI T tl hd gn a4 nd v i s) (hv : ¬ tl i = v) : eg_WI T tl hd gn a4 nd v (i + 1) s := by
  rcases h with ⟨hs, h0⟩ | ⟨r, hs, hr, ⟨e, he, hte, ha⟩, h1, h2⟩
  · exact Or.inl ⟨hs, lt_s h0 hv⟩
  · exact Or.inr ⟨r, hs, hr, ⟨e, by omega, hte, ha⟩, fun ho => lt_s (h1 ho) (fun z => absurd z hv), fun ho => lt_s (h2 ho) (fun z => absurd z hv)⟩
theorem eg_WI_first {v i : Nat} (h0 : ∀ e, e < i → ¬ tl e = v) (hv : tl i = v) : eg_WI T tl hd gn a4 nd v (i + 1) (nI (eg_A T hd gn nd i)) :=
  Or.inr ⟨_, rfl, eg_ask_le _ _ _, ⟨i, by omega, hv, rfl⟩, fun _ => lt_s (fun e he z => absurd z (h0 e he)) (fun _ => Nat.le_refl _), fun _ => lt_s (fun e he z => absurd z (h0 e he)) (fun _ => Nat.le_refl _)⟩
theorem eg_WI_keep {v i r : Nat} (hr : r ≤ T) (hx : ∃ e, e < i ∧ tl e = v ∧ eg_A T hd gn nd e = r) (h1 : a4 v = 0 → ∀ e, e < i → tl e = v → r ≤ eg_A T hd gn nd e) (h2 : ¬ a4 v = 0 → ∀ e, e < i → tl e = v → eg_A T hd gn nd e ≤ r)
    (k1 : a4 v = 0 → r ≤ eg_A T hd gn nd i) (k2 : ¬ a4 v = 0 → eg_A T hd gn nd i ≤ r) : eg_WI T tl hd gn a4 nd v (i + 1) (nI r) := by
  obtain ⟨e, he, hte, ha⟩ := hx
  exact Or.inr ⟨r, rfl, hr, ⟨e, by omega, hte, ha⟩, fun ho => lt_s (h1 ho) (fun _ => k1 ho), fun ho => lt_s (h2 ho) (fun _ => k2 ho)⟩
theorem eg_WI_take {v i r : Nat} (hv : tl i = v) (h1 : a4 v = 0 → ∀ e, e < i → tl e = v → r ≤ eg_A T hd gn nd e) (h2 : ¬ a4 v = 0 → ∀ e, e < i → tl e = v → eg_A T hd gn nd e ≤ r)
    (k1 : a4 v = 0 → eg_A T hd gn nd i ≤ r) (k2 : ¬ a4 v = 0 → r ≤ eg_A T hd gn nd i) : eg_WI T tl hd gn a4 nd v (i + 1) (nI (eg_A T hd gn nd i)) :=
  Or.inr ⟨_, rfl, eg_ask_le _ _ _, ⟨i, by omega, hv, rfl⟩, fun ho => lt_s (fun e he z => Nat.le_trans (k1 ho) (h1 ho e he z)) (fun _ => Nat.le_refl _), fun ho => lt_s (fun e he z => Nat.le_trans (h2 ho e he z) (k2 ho)) (fun _ => Nat.le_refl _)⟩
theorem eg_ne_m1 {i : Nat} (h : i < 2 ^ 31) : ¬ nI i = -1 := by
  intro z
  have z' := congrArg Int32.toInt z
  rw [nI_toInt h, show (-1 : Int32).toInt = -1 from by decide] at z'
  omega
theorem eg_wanted {post : Int32 → Prop} {v : Nat} (hW : eg_W N C T tl hd gn a1 a2 a3) (hv : v < N) (h5 : eg_Nd N T nd a5) (hp : ∀ w, w ≤ T → eg_IsW C T tl hd gn a4 nd v w → post (nI w)) : wpX_wantedAt post (nI N, nI C, nI T, -1, cur, a1, a2, a3, a4, a5, a6, a7) (nI v) := by
  obtain ⟨hN2, hN6, hC, hT, hE⟩ := id hW
  refine pk_loop (fun n i s => wX_wantedAt_4 post (nI v) (nI N) (nI C) (nI T) (-1) cur a1 a2 a3 a4 a5 a6 a7 n s (nI i)) (fun i s => eg_WI T tl hd gn a4 nd v i s) C 0 (-1) (by omega) (Or.inl ⟨rfl, lt_0⟩) ?_ ?_
  · intro n s h
    refine pk_le C C (fun _ => ?_) (fun z => absurd z (by omega))
    rcases h with ⟨hs, h0⟩ | ⟨r, hs, hr, hx, h1, h2⟩
    · subst hs
      exact br_f (by decide) (hp 0 (by omega) (Or.inl ⟨rfl, h0⟩))
    · subst hs
      exact br_t (nI_pos' (by omega)) (hp r hr (Or.inr ⟨hx, h1, h2⟩))
  · intro n i s hi h hw
    obtain ⟨e1, l1, _⟩ := hE i hi
    refine pk_le C i (fun z => absurd z (by omega)) (fun _ => ⟨pk_in i 14 (by omega), ?_⟩)
    rw [nI_clamp (show i < 2 ^ 31 by omega), e1]
    refine pk_eq (tl i) v (fun z => br_f (eg_ne_m1 (by omega)) (eg_asked hW hi h5 ?_)) (fun z => nm_r (nI_1 i) (hw s (eg_WI_skip h z)))
    rcases h with ⟨hs, h0⟩ | ⟨r, hs, hr, hx, h1, h2⟩
    · subst hs
      exact br_t (by decide) (br_f (by decide) (nm_r (nI_1 i) (hw _ (eg_WI_first h0 z))))
    · subst hs
      have hA : eg_A T hd gn nd i ≤ T := eg_ask_le _ _ _
      refine br_f (nI_pos (by omega)) ⟨pk_in v 6 (by omega), ?_⟩
      rw [nI_clamp (show v < 2 ^ 31 by omega)]
      refine br_c (fun ho => pk_le r (eg_A T hd gn nd i) (fun c => ?_) (fun c => ?_)) (fun ho => pk_le (eg_A T hd gn nd i) r (fun c => ?_) (fun c => ?_))
      · exact br_t rfl (nm_r (nI_1 i) (hw _ (eg_WI_keep hr hx h1 h2 (fun _ => c) (fun q => absurd ho q))))
      · exact br_f (by decide) (nm_r (nI_1 i) (hw _ (eg_WI_take z h1 h2 (fun _ => by omega) (fun q => absurd ho q))))
      · exact br_t rfl (nm_r (nI_1 i) (hw _ (eg_WI_keep hr hx h1 h2 (fun q => absurd q ho) (fun _ => c))))
      · exact br_f (by decide) (nm_r (nI_1 i) (hw _ (eg_WI_take z h1 h2 (fun q => absurd q ho) (fun _ => by omega))))
end
end
section
/-! ===== 03: the waiting list; solve ===== -/
/-- how much is waiting at u -/
def eg_w (a6 : Nat → Int32) (u : Nat) : Nat := if a6 u = 1 then 1 else 0
/-- places F .. L - 1 of the ring hold, each once, the vertices that wait -/
def eg_Q (N F L : Nat) (a6 a7 : Nat → Int32) : Prop :=
  (∀ u, u < N → a6 u = 0 ∨ a6 u = 1) ∧ F + eg_sum (eg_w a6) N = L ∧ (∀ k, F ≤ k → k < L → ∃ u, u < N ∧ a7 (k % 8) = nI u ∧ a6 u = 1) ∧ (∀ k k', F ≤ k → k < k' → k' < L → ¬ a7 (k % 8) = a7 (k' % 8))
theorem eg_w_le {a6 : Nat → Int32} (u : Nat) : eg_w a6 u ≤ 1 := by
  unfold eg_w
  split <;> omega
theorem eg_w_1 {a6 : Nat → Int32} {u : Nat} (h : a6 u = 1) : eg_w a6 u = 1 := if_pos h
theorem eg_w_0 {a6 : Nat → Int32} {u : Nat} (h : a6 u = 0) : eg_w a6 u = 0 := if_neg (fun z => absurd (h.symm.trans z) (by decide))
theorem eg_w_un {a6 : Nat → Int32} {u j : Nat} {x : Int32} (h : j ≠ u) : eg_w (upd a6 u x) j = eg_w a6 j := by
  unfold eg_w
  rw [pk_un h]
theorem eg_Q_len {N F L : Nat} {a6 a7 : Nat → Int32} (h : eg_Q N F L a6 a7) : F ≤ L ∧ L ≤ F + N := by
  have h2 := h.2.1
  have := eg_sum_le (f := eg_w a6) (b := 1) N (fun j _ => eg_w_le j)
  omega
theorem eg_Q_add {N F L u : Nat} {a6 a7 : Nat → Int32} (h : eg_Q N F L a6 a7) (hN : N ≤ 6) (hu : u < N) (h0 : a6 u = 0) : eg_Q N F (L + 1) (upd a6 u 1) (upd a7 (L % 8) (nI u)) := by
  have hl := eg_Q_len h
  obtain ⟨q1, q2, q3, q4⟩ := h
  have hs := eg_sum_up (f := eg_w a6) (g := eg_w (upd a6 u 1)) N hu (fun j _ hn => eg_w_un hn)
  rw [eg_w_0 h0, eg_w_1 (a6 := upd a6 u 1) pk_us] at hs
  refine ⟨fun j hj => ?_, by omega, fun k hk hk' => ?_, fun k k' hk hkk hk' => ?_⟩
  · by_cases e : j = u
    · subst e
      exact Or.inr pk_us
    · rw [pk_un e]
      exact q1 j hj
  · by_cases e : k = L
    · subst e
      exact ⟨u, hu, pk_us, pk_us⟩
    · obtain ⟨x, hx, hx7, hx6⟩ := q3 k hk (by omega)
      have hne : x ≠ u := by
        intro z
        rw [z, h0] at hx6
        exact absurd hx6 (by decide)
      refine ⟨x, hx, ?_, ?_⟩
      · rw [pk_un (show k % 8 ≠ L % 8 by omega)]
        exact hx7
      · rw [pk_un hne]
        exact hx6
  · rw [pk_un (show k % 8 ≠ L % 8 by omega)]
    by_cases e : k' = L
    · subst e
      rw [pk_us]
      obtain ⟨x, hx, hx7, hx6⟩ := q3 k hk (by omega)
      rw [hx7]
      intro z
      have z' := (nI_eq (show x < 2 ^ 31 by omega) (show u < 2 ^ 31 by omega)).mp z
      rw [z', h0] at hx6
      exact absurd hx6 (by decide)
    · rw [pk_un (show k' % 8 ≠ L % 8 by omega)]
      exact q4 k k' hk hkk (by omega)
theorem eg_Q_take {N F L : Nat} {a6 a7 : Nat → Int32} (h : eg_Q N F L a6 a7) (hN : N ≤ 6) (hF : F < L) : ∃ u, u < N ∧ a7 (F % 8) = nI u ∧ a6 u = 1 ∧ eg_Q N (F + 1) L (upd a6 u 0) a7 := by
  obtain ⟨q1, q2, q3, q4⟩ := h
  obtain ⟨u, hu, hu7, hu6⟩ := q3 F (by omega) hF
  have hs := eg_sum_up (f := eg_w a6) (g := eg_w (upd a6 u 0)) N hu (fun j _ hn => eg_w_un hn)
  rw [eg_w_1 hu6, eg_w_0 (a6 := upd a6 u 0) pk_us] at hs
  refine ⟨u, hu, hu7, hu6, fun j hj => ?_, by omega, fun k hk hk' => ?_, fun k k' hk hkk hk' => q4 k k' (by omega) hkk hk'⟩
  · by_cases e : j = u
    · subst e
      exact Or.inl pk_us
    · rw [pk_un e]
      exact q1 j hj
  · obtain ⟨x, hx, hx7, hx6⟩ := q3 k (by omega) hk'
    have hne : x ≠ u := by
      intro z
      refine q4 F k (by omega) (by omega) hk' ?_
      rw [hu7, hx7, z]
    refine ⟨x, hx, hx7, ?_⟩
    rw [pk_un hne]
    exact hx6
/-- an empty list: nobody waits -/
theorem eg_Q_0 {N F : Nat} {a6 a7 : Nat → Int32} (h : eg_Q N F F a6 a7) : ∀ u, u < N → a6 u = 0 := by
  intro u hu
  obtain ⟨q1, q2, _⟩ := h
  rcases q1 u hu with z | z
  · exact z
  · have := eg_sum_0 N (show eg_sum (eg_w a6) N = 0 by omega) u hu
    rw [eg_w_1 z] at this
    omega
theorem eg_Q_init {N : Nat} {a6 a7 : Nat → Int32} (hN : N ≤ 6) (h6 : ∀ u, u < N → a6 u = 1) (h7 : ∀ u, u < N → a7 u = nI u) : eg_Q N 0 N a6 a7 := by
  have hs := eg_sum_c (f := eg_w a6) (b := 1) N (fun j hj => eg_w_1 (h6 j hj))
  refine ⟨fun u hu => Or.inr (h6 u hu), by omega, fun k _ hk => ⟨k, hk, ?_, h6 k hk⟩, fun k k' _ hkk hk' => ?_⟩
  · rw [show k % 8 = k by omega]
    exact h7 k hk
  · rw [show k % 8 = k by omega, show k' % 8 = k' by omega, h7 k (by omega), h7 k' hk']
    intro z
    have := (nI_eq (show k < 2 ^ 31 by omega) (show k' < 2 ^ 31 by omega)).mp z
    omega
/-! ring arithmetic -/
theorem eg_r0 (k : Nat) : nI (k % 8) &&& 7 = nI (k % 8) := by
  rw [pk_andN (by omega) 3 (by decide)]
  exact congrArg nI (by omega)
theorem eg_r1 (k : Nat) : (nI (k % 8) + 1) &&& 7 = nI ((k + 1) % 8) := by
  rw [nI_1, pk_andN (by omega) 3 (by decide)]
  exact congrArg nI (by omega)
section
variable {N C T : Nat} {tl hd : Nat → Nat} {gn : Nat → Int} {a1 a2 a3 a4 a5 a6 a7 : Nat → Int32} {nd : Nat → Nat} {cur : Int32}
/-- the loop that lets the vertices before v wait -/
theorem eg_116 {post : St2 → Prop} {J : Int32 → Int32 → Int32 → (Nat → Int32) → (Nat → Int32) → (Nat → Int32) → (Nat → Int32) → (Nat → Int32) → (Nat → Int32) → (Nat → Int32) → Prop} {x1 : Int32} {v F L t : Nat}
    (hW : eg_W N C T tl hd gn a1 a2 a3) (hv : v < N) (hQ : eg_Q N F L a6 a7)
    (H : ∀ L' a6' a7', eg_Q N F L' a6' a7' → (∀ u, u < N → a6 u = 1 → a6' u = 1) → (∀ e, e < C → hd e = v → a6' (tl e) = 1) → J x1 (nI (L' % 8)) (nI (t + 1)) a1 a2 a3 a4 a5 a6' a7') :
    ∃ n, wX_solve_116 post J x1 (nI t) (nI v) (nI N) (nI C) (nI T) (-1) cur n (nI (L % 8)) 0 a1 a2 a3 a4 a5 a6 a7 := by
  obtain ⟨hN2, hN6, hC, hT, hE⟩ := id hW
  refine pk_loop (fun n i (s : Nat × (Nat → Int32) × (Nat → Int32)) => wX_solve_116 post J x1 (nI t) (nI v) (nI N) (nI C) (nI T) (-1) cur n (nI (s.1 % 8)) (nI i) a1 a2 a3 a4 a5 s.2.1 s.2.2)
    (fun i s => eg_Q N F s.1 s.2.1 s.2.2 ∧ (∀ u, u < N → a6 u = 1 → s.2.1 u = 1) ∧ (∀ e, e < i → hd e = v → s.2.1 (tl e) = 1)) C 0 (L, a6, a7) (by omega) ⟨hQ, fun _ _ z => z, lt_0⟩ ?_ ?_
  · intro n s h
    exact pk_le C C (fun _ => nm_r (nI_1 t) (H s.1 s.2.1 s.2.2 h.1 h.2.1 h.2.2)) (fun z => absurd z (by omega))
  · intro n i s hi h hw
    obtain ⟨l, b6, b7⟩ := s
    obtain ⟨q, k1, k2⟩ := h
    dsimp only at q k1 k2
    obtain ⟨e1, l1, e2, l2, _⟩ := hE i hi
    refine pk_le C i (fun z => absurd z (by omega)) (fun _ => ⟨pk_in i 14 (by omega), ?_⟩)
    dsimp only
    rw [nI_clamp (show i < 2 ^ 31 by omega), e2, e1, nI_clamp (show tl i < 2 ^ 31 by omega)]
    refine pk_eq (hd i) v (fun z => ⟨pk_in i 14 (by omega), pk_in (tl i) 6 (by omega), br_c (fun c => ⟨pk_in i 14 (by omega), pk_in (tl i) 6 (by omega), nm_e ⟨pk_in i 14 (by omega), ?_⟩⟩) (fun c => nm_r (nI_1 i) ?_)⟩) (fun z => nm_r (nI_1 i) ?_)
    · rw [eg_r0, nI_clamp (show l % 8 < 2 ^ 31 by omega), eg_r1, nI_1]
      refine ⟨pk_in (l % 8) 8 (by omega), nm_e (nm_e (nm_e ?_))⟩
      refine hw (l + 1, upd b6 (tl i) 1, upd b7 (l % 8) (nI (tl i))) ⟨eg_Q_add q hN6 l1 c, fun u hu h6 => ?_, lt_s (fun e he hv' => ?_) (fun _ => pk_us)⟩
      · dsimp only
        by_cases e : u = tl i
        · rw [e]
          exact pk_us
        · rw [pk_un e]
          exact k1 u hu h6
      · dsimp only
        by_cases e' : tl e = tl i
        · rw [e']
          exact pk_us
        · rw [pk_un e']
          exact k2 e he hv'
    · refine hw (l, b6, b7) ⟨q, k1, lt_s k2 (fun _ => ?_)⟩
      rcases q.1 (tl i) l1 with y | y
      · exact absurd y c
      · exact y
    · exact hw (l, b6, b7) ⟨q, k1, lt_s k2 (fun y => absurd y z)⟩
/-- what solve's loop holds -/
def eg_I (N C T : Nat) (tl hd : Nat → Nat) (gn : Nat → Int) (ow : Nat → Int32) (F L t : Nat) (nd : Nat → Nat) (a5 a6 a7 : Nat → Int32) : Prop :=
  eg_Q N F L a6 a7 ∧ eg_Nd N T nd a5 ∧ (∀ v, v < N → eg_Post C T tl hd gn ow nd v) ∧ eg_Least N C T tl hd gn ow nd ∧ (∀ v, v < N → a6 v = 0 → eg_Pre C T tl hd gn ow nd v) ∧ t + 6 * eg_sum (fun v => T - nd v) N + (L - F) ≤ 1122
theorem eg_46 {post : St2 → Prop} (hW : eg_W N C T tl hd gn a1 a2 a3)
    (H : ∀ nd a5' a6' a7', eg_Nd N T nd a5' → eg_Sol N C T tl hd gn a4 nd → post (nI N, nI C, nI T, -1, cur, a1, a2, a3, a4, a5', a6', a7')) :
    ∀ n F L t nd a5 a6 a7, eg_I N C T tl hd gn a4 F L t nd a5 a6 a7 → 1200 < n + t → wX_solve_46 post (nI N) (nI C) (nI T) (-1) cur n (nI (F % 8)) (nI (L % 8)) (nI t) a1 a2 a3 a4 a5 a6 a7 := by
  obtain ⟨hN2, hN6, hC, hT, hE⟩ := id hW
  intro n
  induction n with
  | zero =>
    intro F L t nd a5 a6 a7 hI hn
    exact absurd hI.2.2.2.2.2 (by omega)
  | succ n ih =>
    intro F L t nd a5 a6 a7 hI hn
    obtain ⟨hQ, h5, hP, hL, hR, hm⟩ := hI
    have hl := eg_Q_len hQ
    refine pk_le 1200 t (fun z => absurd z (by omega)) (fun _ => pk_eq (F % 8) (L % 8) (fun z => ?_) (fun z => ?_))
    · have e : F = L := by omega
      subst e
      have h0 := eg_Q_0 hQ
      exact H nd a5 a6 a7 h5 ⟨fun v hv => (h5 v hv).2, fun v hv => hR v hv (h0 v hv), hP, hL⟩
    · obtain ⟨v, hv, e7, e6, hQ'⟩ := eg_Q_take hQ hN6 (by omega)
      rw [eg_r0, nI_clamp (show F % 8 < 2 ^ 31 by omega), e7, eg_r1]
      refine ⟨pk_in (F % 8) 8 (by omega), nm_e (nm_e ⟨pk_in v 6 (by omega), nm_e (eg_wanted hW hv h5 (fun w hw hIs => ⟨pk_in v 6 (by omega), ?_⟩))⟩)⟩
      obtain ⟨e5, l5⟩ := h5 v hv
      rw [nI_clamp (show v < 2 ^ 31 by omega), e5]
      refine pk_le w (nd v) (fun c => nm_r (nI_1 t) (ih (F + 1) L (t + 1) nd a5 (upd a6 v 0) a7 ⟨hQ', h5, hP, hL, fun u hu hu6 => ?_, by omega⟩ (by omega))) (fun c => ⟨pk_in v 6 (by omega), nm_e ?_⟩)
      · by_cases e : u = v
        · rw [e]
          exact eg_pre_of hIs c
        · rw [pk_un e] at hu6
          exact hR u hu hu6
      · refine eg_116 hW hv hQ' (fun L' b6 b7 q k1 k2 => ih (F + 1) L' (t + 1) (eg_up nd v w) (upd a5 v (nI w)) b6 b7 ⟨q, fun u hu => ?_, fun u hu => ?_, eg_least_up (eg_W_hh hW) hv hL hIs, fun u hu hu6 => ?_, ?_⟩ (by omega))
        · by_cases e : u = v
          · rw [e, pk_us, eg_up_s]
            exact ⟨rfl, hw⟩
          · rw [pk_un e, eg_up_n e]
            exact h5 u hu
        · exact eg_post_up (eg_W_hh hW) (fun u hu => (h5 u hu).2) hw (by omega) hIs (hP u hu)
        · refine eg_pre_up (fun e he hte hhd => ?_) hIs (fun hne => hR u hu ?_)
          · have := k2 e he hhd
            rw [hte, hu6] at this
            exact absurd this (by decide)
          · rcases hQ.1 u hu with y | y
            · exact y
            · have := k1 u hu (by rw [pk_un hne]; exact y)
              rw [hu6] at this
              exact absurd this (by decide)
        · have hs := eg_sum_up (f := fun v => T - nd v) (g := fun u => T - eg_up nd v w u) N hv (fun j _ hn => by rw [eg_up_n hn])
          rw [eg_up_s] at hs
          have hl' := eg_Q_len q
          omega
theorem eg_solve {post : St2 → Prop} (hW : eg_W N C T tl hd gn a1 a2 a3)
    (H : ∀ nd a5' a6' a7', eg_Nd N T nd a5' → eg_Sol N C T tl hd gn a4 nd → post (nI N, nI C, nI T, -1, cur, a1, a2, a3, a4, a5', a6', a7')) :
    wpX_solve post (nI N, nI C, nI T, -1, cur, a1, a2, a3, a4, a5, a6, a7) := by
  obtain ⟨hN2, hN6, hC, hT, hE⟩ := id hW
  refine pk_loop (fun n i (s : (Nat → Int32) × (Nat → Int32) × (Nat → Int32)) => wX_solve_6 post 0 (nI N) (nI C) (nI T) (-1) cur n (nI i) (nI i) a1 a2 a3 a4 s.1 s.2.1 s.2.2)
    (fun i s => ∀ j, j < i → s.1 j = nI 0 ∧ s.2.1 j = 1 ∧ s.2.2 j = nI j) N 0 (a5, a6, a7) (by omega) lt_0 ?_ ?_
  · intro n s h
    obtain ⟨b5, b6, b7⟩ := s
    dsimp only at h
    refine pk_le N N (fun _ => ⟨1201, ?_⟩) (fun z => absurd z (by omega))
    have hs := eg_sum_c (f := fun _ => T - 0) (b := T) N (fun j _ => rfl)
    have hNT : N * T ≤ 6 * 31 := Nat.mul_le_mul hN6 (by omega)
    have := eg_46 (cur := cur) (a4 := a4) hW H 1201 0 N 0 (fun _ => 0) b5 b6 b7 ⟨eg_Q_init hN6 (fun u hu => (h u hu).2.1) (fun u hu => (h u hu).2.2), fun v hv => ⟨(h v hv).1, Nat.zero_le _⟩, fun v hv => Or.inl rfl, fun m _ _ v _ => Nat.zero_le _, fun v hv z => absurd ((h v hv).2.1.symm.trans z) (by decide), by dsimp only; omega⟩ (by omega)
    rw [show N % 8 = N by omega] at this
    exact this
  · intro n i s hi h hw
    obtain ⟨b5, b6, b7⟩ := s
    dsimp only at h
    refine pk_le N i (fun z => absurd z (by omega)) (fun _ => ⟨pk_in i 6 (by omega), nm_e ⟨pk_in i 6 (by omega), nm_e ⟨pk_in i 8 (by omega), nm_e (nm_r (nI_1 i) (nm_r (nI_1 i) ?_))⟩⟩⟩)
    dsimp only
    rw [nI_clamp (show i < 2 ^ 31 by omega)]
    refine hw (upd b5 i 0, upd b6 i 1, upd b7 i (nI i)) (lt_s (fun j hj => ?_) ⟨pk_us, pk_us, pk_us⟩)
    dsimp only
    rw [pk_un (show j ≠ i by omega), pk_un (show j ≠ i by omega), pk_un (show j ≠ i by omega)]
    exact h j hj
end
end
section
/-! ===== 04: refresh, safe, need, needOf, choices ===== -/
/-- the flag 'current' tells the truth -/
def eg_Cur (N C T : Nat) (tl hd : Nat → Nat) (gn : Nat → Int) (ow : Nat → Int32) (cur : Int32) (a5 : Nat → Int32) : Prop :=
  cur = 0 ∨ (cur = 1 ∧ ∃ nd, eg_Nd N T nd a5 ∧ eg_Sol N C T tl hd gn ow nd)
/-- what shown answers -/
def eg_sh (T x : Nat) : Int32 := if x = T then -2 else nI x
theorem eg_sh_le {T a b : Nat} (h : a ≤ b) (hb : b ≤ T) (hT : T < 2 ^ 31) (h1 : ¬ eg_sh T a < 0) (h2 : ¬ eg_sh T b < 0) : eg_sh T a ≤ eg_sh T b := by
  unfold eg_sh at h1 h2 ⊢
  split at h1
  · exact absurd (by decide) h1
  · split at h2
    · exact absurd (by decide) h2
    · rename_i x y
      rw [if_neg x, if_neg y]
      exact nI_le h (by omega)
/-- the set that safe answers -/
def eg_mk (t x : Int32) (a5 : Nat → Int32) : Nat → Int32
  | 0 => 0
  | n + 1 => if t ≤ a5 n ∨ x < a5 n then eg_mk t x a5 n else eg_mk t x a5 n ||| ((1 : Int32) <<< (nI n &&& 31))
theorem eg_mk_y {t x : Int32} {a5 : Nat → Int32} {n : Nat} (h : t ≤ a5 n ∨ x < a5 n) : eg_mk t x a5 (n + 1) = eg_mk t x a5 n := if_pos h
theorem eg_mk_n {t x : Int32} {a5 : Nat → Int32} {n : Nat} (h : ¬ (t ≤ a5 n ∨ x < a5 n)) : eg_mk t x a5 (n + 1) = eg_mk t x a5 n ||| ((1 : Int32) <<< (nI n &&& 31)) := if_neg h
theorem eg_and1 {a b x : Int32} (h : a &&& b = a) : a &&& (b ||| x) = a := by
  apply Int32.toBitVec_inj.mp
  have h' := congrArg Int32.toBitVec h
  rw [Int32.toBitVec_and] at h'
  rw [Int32.toBitVec_and, Int32.toBitVec_or]
  apply BitVec.eq_of_getLsbD_eq
  intro i hi
  have hb := congrArg (fun z => z.getLsbD i) h'
  rw [BitVec.getLsbD_and] at hb
  rw [BitVec.getLsbD_and, BitVec.getLsbD_or]
  revert hb
  cases a.toBitVec.getLsbD i <;> cases b.toBitVec.getLsbD i <;> cases x.toBitVec.getLsbD i <;> decide
theorem eg_and2 {a b x : Int32} (h : a &&& b = a) : (a ||| x) &&& (b ||| x) = a ||| x := by
  apply Int32.toBitVec_inj.mp
  have h' := congrArg Int32.toBitVec h
  rw [Int32.toBitVec_and] at h'
  rw [Int32.toBitVec_and, Int32.toBitVec_or, Int32.toBitVec_or]
  apply BitVec.eq_of_getLsbD_eq
  intro i hi
  have hb := congrArg (fun z => z.getLsbD i) h'
  rw [BitVec.getLsbD_and] at hb
  rw [BitVec.getLsbD_and, BitVec.getLsbD_or, BitVec.getLsbD_or]
  revert hb
  cases a.toBitVec.getLsbD i <;> cases b.toBitVec.getLsbD i <;> cases x.toBitVec.getLsbD i <;> decide
/-- more credit, more safe vertices -/
theorem eg_mk_mono {t x y : Int32} {a5 : Nat → Int32} (hxy : x.toInt ≤ y.toInt) : ∀ n, eg_mk t x a5 n &&& eg_mk t y a5 n = eg_mk t x a5 n
  | 0 => by
    show (0 : Int32) &&& 0 = 0
    decide
  | n + 1 => by
    have ih := eg_mk_mono (t := t) (a5 := a5) hxy n
    by_cases h : t ≤ a5 n ∨ x < a5 n
    · rw [eg_mk_y h]
      by_cases h2 : t ≤ a5 n ∨ y < a5 n
      · rw [eg_mk_y h2]
        exact ih
      · rw [eg_mk_n h2]
        exact eg_and1 ih
    · have h2 : ¬ (t ≤ a5 n ∨ y < a5 n) := by
        intro z
        rcases z with z | z
        · exact h (Or.inl z)
        · refine h (Or.inr ?_)
          rw [Int32.lt_iff_toInt_lt] at z ⊢
          omega
      rw [eg_mk_n h, eg_mk_n h2]
      exact eg_and2 ih
theorem eg_upd_back {a : Nat → Int32} {k : Nat} {x : Int32} : upd (upd a k x) k (a k) = a := by
  funext j
  by_cases e : j = k
  · rw [e, pk_us]
  · rw [pk_un e, pk_un e]
section
variable {N C T : Nat} {tl hd : Nat → Nat} {gn : Nat → Int} {a1 a2 a3 a4 a5 a6 a7 : Nat → Int32} {nd : Nat → Nat} {cur fc ft sk : Int32}
theorem eg_isV {post : Int32 → Prop} {v : Nat} (hN : N ≤ 6) (hv : v < N) (hp : post 1) : wpX_isVertex post (nI N, fc, ft, sk, cur, a1, a2, a3, a4, a5, a6, a7) (nI v) :=
  br_f (nI_pos (by omega)) (pk_le N v (fun z => absurd z (by omega)) (fun _ => hp))
theorem eg_refresh {post : St2 → Prop} (hW : eg_W N C T tl hd gn a1 a2 a3) (hc : eg_Cur N C T tl hd gn a4 cur a5)
    (H : ∀ nd a5' a6' a7', eg_Nd N T nd a5' → eg_Sol N C T tl hd gn a4 nd → post (nI N, nI C, nI T, -1, 1, a1, a2, a3, a4, a5', a6', a7')) :
    wpX_refresh post (nI N, nI C, nI T, -1, cur, a1, a2, a3, a4, a5, a6, a7) := by
  rcases hc with hc | ⟨hc, nd, h5, hs⟩
  · subst hc
    exact br_t rfl (eg_solve hW (fun nd b5 b6 b7 h s => H nd b5 b6 b7 h s))
  · subst hc
    exact br_f (by decide) (H nd a5 a6 a7 h5 hs)
theorem eg_refresh1 {post : St2 → Prop} {fn : Int32} (H : post (fn, fc, ft, sk, 1, a1, a2, a3, a4, a5, a6, a7)) : wpX_refresh post (fn, fc, ft, sk, 1, a1, a2, a3, a4, a5, a6, a7) := br_f (by decide) H
theorem eg_safe8 {post : Int32 → St2 → Prop} {x : Int32} (hN : N ≤ 6) (H : post (eg_mk ft x a5 N) (nI N, fc, ft, sk, cur, a1, a2, a3, a4, a5, a6, a7)) : ∃ n, wX_safe_8 post x (nI N) fc ft sk cur a1 a2 a3 a4 a5 a6 a7 n 0 0 := by
  refine pk_loop (fun n i (_ : Unit) => wX_safe_8 post x (nI N) fc ft sk cur a1 a2 a3 a4 a5 a6 a7 n (eg_mk ft x a5 i) (nI i)) (fun _ _ => True) N 0 () (by omega) trivial ?_ ?_
  · intro n _ _
    exact pk_le N N (fun _ => H) (fun z => absurd z (by omega))
  · intro n i _ hi _ hw
    have hw := hw () trivial
    refine pk_le N i (fun z => absurd z (by omega)) (fun _ => ⟨pk_in i 6 (by omega), ?_⟩)
    rw [nI_clamp (show i < 2 ^ 31 by omega)]
    refine br_c (fun c => nm_r (nI_1 i) ?_) (fun c => ⟨pk_in i 6 (by omega), br_c (fun d => nm_r (nI_1 i) ?_) (fun d => nm_e (nm_r (nI_1 i) ?_))⟩)
    · rw [eg_mk_y (Or.inl c)] at hw
      exact hw
    · rw [eg_mk_y (Or.inr d)] at hw
      exact hw
    · rw [eg_mk_n (fun z => z.elim c d)] at hw
      exact hw
theorem eg_safe {post : Int32 → St2 → Prop} {x : Int32} (hW : eg_W N C T tl hd gn a1 a2 a3) (hc : eg_Cur N C T tl hd gn a4 cur a5)
    (H : ∀ nd a5' a6' a7', eg_Nd N T nd a5' → eg_Sol N C T tl hd gn a4 nd → post (eg_mk (nI T) x a5' N) (nI N, nI C, nI T, -1, 1, a1, a2, a3, a4, a5', a6', a7')) :
    wpX_safe post (nI N, nI C, nI T, -1, cur, a1, a2, a3, a4, a5, a6, a7) x := by
  unfold wpX_safe
  dsimp only
  exact eg_refresh hW hc (fun nd b5 b6 b7 h s => eg_safe8 hW.2.1 (H nd b5 b6 b7 h s))
theorem eg_safe1 {post : Int32 → St2 → Prop} {x : Int32} (hN : N ≤ 6) (H : post (eg_mk ft x a5 N) (nI N, fc, ft, sk, 1, a1, a2, a3, a4, a5, a6, a7)) :
    wpX_safe post (nI N, fc, ft, sk, 1, a1, a2, a3, a4, a5, a6, a7) x := by
  unfold wpX_safe
  dsimp only
  exact eg_refresh1 (eg_safe8 hN H)
theorem eg_shown {post : Int32 → Prop} {v : Nat} {fn : Int32} (hN : N ≤ 6) (hT : T < 2 ^ 31) (hv : v < N) (h5 : eg_Nd N T nd a5) (hp : post (eg_sh T (nd v))) : wpX_shown post (fn, fc, nI T, sk, cur, a1, a2, a3, a4, a5, a6, a7) (nI v) := by
  obtain ⟨e5, l5⟩ := h5 v hv
  unfold wpX_shown
  dsimp only
  rw [nI_clamp (show v < 2 ^ 31 by omega), e5]
  unfold eg_sh at hp
  refine ⟨pk_in v 6 (by omega), pk_eq (nd v) T (fun z => ?_) (fun z => ⟨pk_in v 6 (by omega), ?_⟩)⟩
  · rw [if_pos z] at hp
    exact hp
  · rw [if_neg z] at hp
    exact hp
theorem eg_need {post : Int32 → St2 → Prop} {v : Nat} (hW : eg_W N C T tl hd gn a1 a2 a3) (hv : v < N) (hc : eg_Cur N C T tl hd gn a4 cur a5)
    (H : ∀ nd a5' a6' a7', eg_Nd N T nd a5' → eg_Sol N C T tl hd gn a4 nd → post (eg_sh T (nd v)) (nI N, nI C, nI T, -1, 1, a1, a2, a3, a4, a5', a6', a7')) :
    wpX_need post (nI N, nI C, nI T, -1, cur, a1, a2, a3, a4, a5, a6, a7) (nI v) := by
  obtain ⟨hN2, hN6, hC, hT, hE⟩ := id hW
  unfold wpX_need
  dsimp only
  refine eg_isV hN6 hv (br_f (by decide) (eg_refresh hW hc (fun nd b5 b6 b7 h s => ?_)))
  exact eg_shown hN6 (by omega) hv h (H nd b5 b6 b7 h s)
theorem eg_needOf22 {post : Int32 → St2 → Prop} {v : Nat} {p : Int32} (hW : eg_W N C T tl hd gn a1 a2 a3) (hv : v < N)
    (H : ∀ nd a5' a6' a7', eg_Nd N T nd a5' → eg_Sol N C T tl hd gn (upd a4 v p) nd → post (eg_sh T (nd v)) (nI N, nI C, nI T, -1, 0, a1, a2, a3, a4, a5', a6', a7')) :
    wX_needOf_22 post (nI v) p (nI N) (nI C) (nI T) (-1) cur a1 a2 a3 a4 a5 a6 a7 := by
  obtain ⟨hN2, hN6, hC, hT, hE⟩ := id hW
  unfold wX_needOf_22
  rw [nI_clamp (show v < 2 ^ 31 by omega)]
  refine ⟨pk_in v 6 (by omega), nm_e ⟨pk_in v 6 (by omega), nm_e (eg_solve hW (fun nd b5 b6 b7 h s => ⟨pk_in v 6 (by omega), nm_r eg_upd_back ?_⟩))⟩⟩
  exact eg_shown hN6 (by omega) hv h (H nd b5 b6 b7 h s)
theorem eg_needOf {post : Int32 → St2 → Prop} {v : Nat} {p : Int32} (hp : p = 0 ∨ p = 1) (hW : eg_W N C T tl hd gn a1 a2 a3) (hv : v < N)
    (H : ∀ nd a5' a6' a7', eg_Nd N T nd a5' → eg_Sol N C T tl hd gn (upd a4 v p) nd → post (eg_sh T (nd v)) (nI N, nI C, nI T, -1, 0, a1, a2, a3, a4, a5', a6', a7')) :
    wpX_needOf post (nI N, nI C, nI T, -1, cur, a1, a2, a3, a4, a5, a6, a7) (nI v) p := by
  obtain ⟨hN2, hN6, hC, hT, hE⟩ := id hW
  unfold wpX_needOf
  dsimp only
  refine eg_isV hN6 hv (br_f (by decide) ?_)
  by_cases h0 : p = 0
  · exact br_t h0 (eg_needOf22 hW hv H)
  · exact br_f h0 (br_t (hp.resolve_left h0) (eg_needOf22 hW hv H))
theorem eg_isGood {post : Int32 → Prop} {e : Nat} {fn : Int32} (hW : eg_W N C T tl hd gn a1 a2 a3) (he : e < C) (h5 : eg_Nd N T nd a5)
    (H : ∀ r : Int32, (r = 0 ∨ r = 1) → (¬ nd (tl e) = T → eg_A T hd gn nd e = nd (tl e) → r = 1) → post r) : wpX_isGood post (fn, fc, nI T, sk, cur, a1, a2, a3, a4, a5, a6, a7) (nI e) := by
  obtain ⟨hN2, hN6, hC, hT, hE⟩ := id hW
  obtain ⟨e1, l1, e2, l2, _⟩ := hE e he
  obtain ⟨e5, l5⟩ := h5 _ l1
  obtain ⟨e5', l5'⟩ := h5 _ l2
  unfold wpX_isGood
  dsimp only
  rw [nI_clamp (show e < 2 ^ 31 by omega), e1, e2]
  refine ⟨pk_in e 14 (by omega), nm_e ⟨pk_in e 14 (by omega), nm_e ⟨pk_in (tl e) 6 (by omega), ?_⟩⟩⟩
  rw [nI_clamp (show tl e < 2 ^ 31 by omega), nI_clamp (show hd e < 2 ^ 31 by omega), e5, e5']
  refine pk_eq (nd (tl e)) T (fun z => ⟨pk_in (tl e) 6 (by omega), br_c (fun _ => ⟨pk_in (hd e) 6 (by omega), br_c (fun _ => H 1 (Or.inr rfl) (fun y => absurd z y)) (fun _ => H 0 (Or.inl rfl) (fun y => absurd z y))⟩) (fun _ => H 0 (Or.inl rfl) (fun y => absurd z y))⟩) (fun z => eg_asked hW he h5 ⟨pk_in (tl e) 6 (by omega), ?_⟩)
  have hA : eg_A T hd gn nd e ≤ T := eg_ask_le _ _ _
  refine pk_eq (eg_A T hd gn nd e) (nd (tl e)) (fun y => ⟨pk_in (hd e) 6 (by omega), pk_le T (nd (hd e)) (fun q => ?_) (fun _ => H 1 (Or.inr rfl) (fun _ _ => rfl))⟩) (fun y => H 0 (Or.inl rfl) (fun _ q => absurd q y))
  have : nd (hd e) ≠ T := eg_ask_lt (g := gn e) (show eg_A T hd gn nd e < T by omega)
  omega
theorem eg_choices {post : Int32 → St2 → Prop} {v : Nat} (hW : eg_W N C T tl hd gn a1 a2 a3) (hv : v < N) (h5 : eg_Nd N T nd a5) (hnT : ¬ nd v = T) (hx : ∃ e, e < C ∧ tl e = v ∧ eg_A T hd gn nd e = nd v)
    (H : ∀ k, 1 ≤ k → k ≤ 14 → post (nI k) (nI N, nI C, nI T, -1, 1, a1, a2, a3, a4, a5, a6, a7)) :
    wpX_choices post (nI N, nI C, nI T, -1, 1, a1, a2, a3, a4, a5, a6, a7) (nI v) := by
  obtain ⟨hN2, hN6, hC, hT, hE⟩ := id hW
  unfold wpX_choices
  dsimp only
  refine eg_isV hN6 hv (br_f (by decide) (eg_refresh1 ?_))
  dsimp only
  refine pk_loop (fun n i s => wX_choices_18 post (nI v) (nI N) (nI C) (nI T) (-1) 1 a1 a2 a3 a4 a5 a6 a7 n s (nI i)) (fun i s => ∃ k, s = nI k ∧ k ≤ i ∧ ((∃ e, e < i ∧ tl e = v ∧ eg_A T hd gn nd e = nd v) → 1 ≤ k)) C 0 0 (by omega) ⟨0, rfl, by omega, fun ⟨e, he, _⟩ => absurd he (by omega)⟩ ?_ ?_
  · intro n s h
    obtain ⟨k, hs, hk, hk1⟩ := h
    subst hs
    exact pk_le C C (fun _ => H k (hk1 hx) (by omega)) (fun z => absurd z (by omega))
  · intro n i s hi h hw
    obtain ⟨k, hs, hk, hk1⟩ := h
    subst hs
    obtain ⟨e1, l1, _⟩ := hE i hi
    have keep : (tl i = v → ¬ eg_A T hd gn nd i = nd v) → ∃ k', nI k = nI k' ∧ k' ≤ i + 1 ∧ ((∃ e, e < i + 1 ∧ tl e = v ∧ eg_A T hd gn nd e = nd v) → 1 ≤ k') := by
      intro hno
      refine ⟨k, rfl, by omega, fun ⟨e, he, hv', ha⟩ => hk1 ⟨e, ?_, hv', ha⟩⟩
      by_cases q : e = i
      · subst q
        exact absurd ha (hno hv')
      · omega
    refine pk_le C i (fun z => absurd z (by omega)) (fun _ => ⟨pk_in i 14 (by omega), ?_⟩)
    rw [nI_clamp (show i < 2 ^ 31 by omega), e1]
    refine pk_eq (tl i) v (fun z => eg_isGood hW hi h5 (fun r hr hg => ?_)) (fun z => nm_r (Int32.add_zero _) (nm_r (nI_1 i) (hw _ (keep (fun q => absurd q z)))))
    refine br_c (fun c => nm_r (Int32.add_zero _) (nm_r (nI_1 i) (hw _ (keep (fun _ q => ?_))))) (fun c => nm_r (nI_1 k) (nm_r (nI_1 i) (hw _ ⟨k + 1, rfl, by omega, fun _ => by omega⟩)))
    rw [z] at hg
    have := hg hnT q
    rw [c] at this
    exact absurd this (by decide)
end
end
section
/-! ===== 05: the law's check of one state ===== -/
section
variable {N C T : Nat} {tl hd : Nat → Nat} {gn : Nat → Int} {a1 a2 a3 a4 a5 a6 a7 : Nat → Int32} {nd : Nat → Nat} {cur : Int32}
  {post : Int32 → St2 → Prop} {J : Int32 → Int32 → Int32 → Int32 → Int32 → Int32 → (Nat → Int32) → (Nat → Int32) → (Nat → Int32) → (Nat → Int32) → (Nat → Int32) → (Nat → Int32) → (Nat → Int32) → Prop}
theorem eg_h111 {x1 x2 : Int32} {v : Nat} (hW : eg_W N C T tl hd gn a1 a2 a3) (hv : v < N) (HJ : ∀ a5' a6' a7', J (nI (v + 1)) (nI N) (nI C) (nI T) (-1) 0 a1 a2 a3 a4 a5' a6' a7') :
    wL_holds_111 post J x1 x2 (nI v) (nI N) (nI C) (nI T) (-1) cur a1 a2 a3 a4 a5 a6 a7 := by
  obtain ⟨hN2, hN6, hC, hT, hE⟩ := id hW
  unfold wL_holds_111
  refine eg_needOf (Or.inl rfl) hW hv (fun n0 b5 b6 b7 h0 s0 => ?_)
  dsimp only
  refine eg_needOf (Or.inr rfl) hW hv (fun n1 c5 c6 c7 h1 s1 => ?_)
  dsimp only
  have hle := eg_keeper rfl s0 s1 v hv
  refine br_c (fun _ => nm_r (nI_1 v) (HJ c5 c6 c7)) (fun p => br_c (fun _ => nm_r (nI_1 v) (HJ c5 c6 c7)) (fun q => br_t (eg_sh_le hle (s1.1 v hv) (by omega) p q) (nm_r (nI_1 v) (HJ c5 c6 c7))))
theorem eg_h57 {outs : Int32} {v : Nat} (hW : eg_W N C T tl hd gn a1 a2 a3) (hv : v < N) (h5 : eg_Nd N T nd a5) (hs : eg_Sol N C T tl hd gn a4 nd)
    (ho : ¬ ((outs >>> ((4 * nI v) &&& 31)) &&& 15) ≤ 0 → ∃ e, e < C ∧ tl e = v)
    (HJ : ∀ a5' a6' a7', J (nI (v + 1)) (nI N) (nI C) (nI T) (-1) 0 a1 a2 a3 a4 a5' a6' a7') :
    wL_holds_57 post J (nI N) outs (nI v) (eg_sh T (nd v)) (nI N) (nI C) (nI T) (-1) 1 a1 a2 a3 a4 a5 a6 a7 := by
  obtain ⟨hN2, hN6, hC, hT, hE⟩ := id hW
  have h6 : (6 : Int32) * (nI N - 1) = nI (6 * (N - 1)) := by
    show nI 6 * (nI N - nI 1) = _
    rw [pk_sub (by omega), pk_mul]
  have hl : eg_sh T (nd v) ≤ nI (6 * (N - 1)) := by
    unfold eg_sh
    have := hs.1 v hv
    split
    · rw [Int32.le_iff_toInt_le, nI_toInt (by omega), show (-2 : Int32).toInt = -2 from by decide]
      omega
    · exact nI_le (by omega) (by omega)
  unfold wL_holds_57
  rw [h6]
  refine br_t hl (br_c (fun _ => ?_) (fun c => ?_))
  · exact br_c (fun _ => eg_h111 hW hv HJ) (fun _ => br_t rfl (eg_h111 hW hv HJ))
  · refine br_c (fun _ => eg_h111 hW hv HJ) (fun d => br_f (by decide) ?_)
    have hnT : ¬ nd v = T := by
      intro z
      apply d
      unfold eg_sh
      rw [if_pos z]
      decide
    refine eg_choices hW hv h5 hnT (eg_choice (hs.2.1 v hv) (hs.2.2.1 v hv) (ho c)) (fun k hk hk' => ?_)
    dsimp only
    exact br_t (show nI 1 ≤ nI k from nI_le hk (by omega)) (eg_h111 hW hv HJ)
theorem eg_h31 {outs : Int32} (hW : eg_W N C T tl hd gn a1 a2 a3) (hc : eg_Cur N C T tl hd gn a4 cur a5)
    (ho : ∀ v, v < N → ¬ ((outs >>> ((4 * nI v) &&& 31)) &&& 15) ≤ 0 → ∃ e, e < C ∧ tl e = v)
    (H : ∀ cur' a5' a6' a7', eg_Cur N C T tl hd gn a4 cur' a5' → post 1 (nI N, nI C, nI T, -1, cur', a1, a2, a3, a4, a5', a6', a7')) :
    ∃ n, wL_holds_31 post (nI N) outs n 0 (nI N) (nI C) (nI T) (-1) cur a1 a2 a3 a4 a5 a6 a7 := by
  obtain ⟨hN2, hN6, hC, hT, hE⟩ := id hW
  refine pk_loop (fun n i (s : Int32 × (Nat → Int32) × (Nat → Int32) × (Nat → Int32)) => wL_holds_31 post (nI N) outs n (nI i) (nI N) (nI C) (nI T) (-1) s.1 a1 a2 a3 a4 s.2.1 s.2.2.1 s.2.2.2)
    (fun _ s => eg_Cur N C T tl hd gn a4 s.1 s.2.1) N 0 (cur, a5, a6, a7) (by omega) hc ?_ ?_
  · intro n s h
    exact pk_le N N (fun _ => H _ _ _ _ h) (fun z => absurd z (by omega))
  · intro n i s hi h hw
    obtain ⟨k, b5, b6, b7⟩ := s
    dsimp only at h
    refine pk_le N i (fun z => absurd z (by omega)) (fun _ => eg_need hW hi h (fun nd c5 c6 c7 h5 hs => ?_))
    have g : wL_holds_57 post (wL_holds_31 post (nI N) outs n) (nI N) outs (nI i) (eg_sh T (nd i)) (nI N) (nI C) (nI T) (-1) 1 a1 a2 a3 a4 c5 c6 c7 :=
      eg_h57 hW hi h5 hs (ho i hi) (fun d5 d6 d7 => hw (0, d5, d6, d7) (Or.inl rfl))
    dsimp only
    refine br_c (fun _ => g) (fun c => br_c (fun _ => g) (fun d => absurd ?_ d))
    unfold eg_sh at c ⊢
    split
    · rfl
    · rename_i q
      rw [if_neg q] at c
      have := hs.1 i hi
      exact absurd (nI_pos' (by omega)) c
theorem eg_holds {outs credit : Int32} (hW : eg_W N C T tl hd gn a1 a2 a3) (hc : eg_Cur N C T tl hd gn a4 cur a5) (hcr : credit.toInt ≤ (credit + 1).toInt)
    (ho : ∀ v, v < N → ¬ ((outs >>> ((4 * nI v) &&& 31)) &&& 15) ≤ 0 → ∃ e, e < C ∧ tl e = v)
    (H : ∀ cur' a5' a6' a7', eg_Cur N C T tl hd gn a4 cur' a5' → post 1 (nI N, nI C, nI T, -1, cur', a1, a2, a3, a4, a5', a6', a7')) :
    wpL_holds post (nI N, nI C, nI T, -1, cur, a1, a2, a3, a4, a5, a6, a7) (nI N) outs credit := by
  obtain ⟨hN2, hN6, hC, hT, hE⟩ := id hW
  unfold wpL_holds
  dsimp only
  refine eg_safe hW hc (fun nd b5 b6 b7 h5 hs => ?_)
  dsimp only
  refine eg_safe1 hN6 ?_
  dsimp only
  exact br_t (eg_mk_mono hcr N) (eg_h31 hW (Or.inr ⟨rfl, nd, h5, hs⟩) ho H)
end
end
section
/-! ===== 06: link, set, give, cut; the law's own books: outs, starts ===== -/
/-- how many of the first C edges leave v -/
def eg_deg (tl : Nat → Nat) (C v : Nat) : Nat := eg_sum (fun e => if tl e = v then 1 else 0) C
theorem eg_deg_S {tl : Nat → Nat} {C v : Nat} : eg_deg tl (C + 1) v = eg_deg tl C v + (if tl C = v then 1 else 0) := rfl
theorem eg_deg_up {tl : Nat → Nat} {C u v : Nat} : eg_deg (eg_up tl C u) (C + 1) v = eg_deg tl C v + (if u = v then 1 else 0) := by
  rw [eg_deg_S, eg_up_s]
  refine congrArg (fun z => z + (if u = v then 1 else 0)) (eg_sum_eq C (fun j hj => ?_))
  rw [eg_up_n (show j ≠ C by omega)]
theorem eg_deg_pos {tl : Nat → Nat} {v : Nat} : ∀ C, 0 < eg_deg tl C v → ∃ e, e < C ∧ tl e = v
  | 0, h => absurd h (Nat.lt_irrefl 0)
  | C + 1, h => by
    rw [eg_deg_S] at h
    by_cases q : tl C = v
    · exact ⟨C, by omega, q⟩
    · rw [if_neg q] at h
      obtain ⟨e, he, hv⟩ := eg_deg_pos C h
      exact ⟨e, by omega, hv⟩
/-- six numbers in one int, four bits each -/
def eg_out (d : Nat → Nat) : Nat := d 0 + 16 * d 1 + 256 * d 2 + 4096 * d 3 + 65536 * d 4 + 1048576 * d 5
theorem eg_out_amt : ∀ v, v < 6 → ((((4 : Int32) * nI v) &&& 31).toBitVec.smod 32).toNat = 4 * v := by decide +kernel
theorem eg_out_one : ∀ u, u < 6 → (1 : Int32) <<< (((4 : Int32) * nI u) &&& 31) = nI (16 ^ u) := by decide +kernel
theorem eg_out_lt {d : Nat → Nat} (hd : ∀ j, j < 6 → d j ≤ 3) : eg_out d < 2 ^ 31 := by
  have := hd 0 (by omega)
  have := hd 1 (by omega)
  have := hd 2 (by omega)
  have := hd 3 (by omega)
  have := hd 4 (by omega)
  have := hd 5 (by omega)
  unfold eg_out
  omega
theorem eg_out_dm {d : Nat → Nat} (hd : ∀ j, j < 6 → d j ≤ 3) {v : Nat} (hv : v < 6) : eg_out d / 2 ^ (4 * v) % 2 ^ 4 = d v := by
  have h0 := hd 0 (by omega)
  have h1 := hd 1 (by omega)
  have h2 := hd 2 (by omega)
  have h3 := hd 3 (by omega)
  have h4 := hd 4 (by omega)
  have h5 := hd 5 (by omega)
  unfold eg_out
  rcases (show v = 0 ∨ v = 1 ∨ v = 2 ∨ v = 3 ∨ v = 4 ∨ v = 5 by omega) with e | e | e | e | e | e
  · subst e
    show _ / 1 % 16 = _
    omega
  · subst e
    show _ / 16 % 16 = _
    omega
  · subst e
    show _ / 256 % 16 = _
    omega
  · subst e
    show _ / 4096 % 16 = _
    omega
  · subst e
    show _ / 65536 % 16 = _
    omega
  · subst e
    show _ / 1048576 % 16 = _
    omega
theorem eg_out_get {d : Nat → Nat} (hd : ∀ j, j < 6 → d j ≤ 3) {v : Nat} (hv : v < 6) : (nI (eg_out d) >>> (((4 : Int32) * nI v) &&& 31)) &&& 15 = nI (d v) := by
  have hl := eg_out_lt hd
  have hq : eg_out d / 2 ^ (4 * v) ≤ eg_out d := Nat.div_le_self _ _
  rw [pk_shrN hl _ (4 * v) (eg_out_amt v hv), pk_andN (by omega) 4 (by decide), eg_out_dm hd hv]
theorem eg_out_up {d d' : Nat → Nat} {u : Nat} (hu : u < 6) (h : ∀ j, j < 6 → d' j = d j + (if u = j then 1 else 0)) : eg_out d' = eg_out d + 16 ^ u := by
  unfold eg_out
  rw [h 0 (by omega), h 1 (by omega), h 2 (by omega), h 3 (by omega), h 4 (by omega), h 5 (by omega)]
  rcases (show u = 0 ∨ u = 1 ∨ u = 2 ∨ u = 3 ∨ u = 4 ∨ u = 5 by omega) with e | e | e | e | e | e
  all_goals
    subst e
    simp
    omega
/-- the law's count of edges by their beginning -/
def eg_Outs (tl : Nat → Nat) (C : Nat) (x : Int32) : Prop := x = nI (eg_out (eg_deg tl C)) ∧ ∀ v, v < 6 → eg_deg tl C v ≤ 3
theorem eg_Outs_leads {tl : Nat → Nat} {C : Nat} {x : Int32} (h : eg_Outs tl C x) {v : Nat} (hv : v < 6) (hl : ¬ ((x >>> (((4 : Int32) * nI v) &&& 31)) &&& 15) ≤ 0) : ∃ e, e < C ∧ tl e = v := by
  rw [h.1, eg_out_get h.2 hv] at hl
  refine eg_deg_pos C (Nat.pos_of_ne_zero (fun z => hl ?_))
  rw [z]
  decide
theorem eg_Outs_link {tl : Nat → Nat} {C u : Nat} {x : Int32} (h : eg_Outs tl C x) (hu : u < 6) (hd : ¬ eg_deg tl C u = 3) : eg_Outs (eg_up tl C u) (C + 1) (x + ((1 : Int32) <<< (((4 : Int32) * nI u) &&& 31))) := by
  refine ⟨?_, fun v hv => ?_⟩
  · rw [h.1, eg_out_one u hu, nI_add]
    exact congrArg nI (eg_out_up hu (fun j _ => eg_deg_up)).symm
  · rw [eg_deg_up]
    have := h.2 v hv
    by_cases q : u = v
    · subst q
      rw [if_pos rfl]
      omega
    · rw [if_neg q]
      omega
theorem eg_Outs_cut {tl : Nat → Nat} {C u : Nat} {x : Int32} (h : eg_Outs tl (C + 1) x) (hu : u < 6) (ht : tl C = u) : eg_Outs tl C (x - ((1 : Int32) <<< (((4 : Int32) * nI u) &&& 31))) := by
  have e := eg_out_up (d := eg_deg tl C) (d' := eg_deg tl (C + 1)) hu (fun j _ => by rw [eg_deg_S, ht])
  refine ⟨?_, fun v hv => ?_⟩
  · rw [h.1, eg_out_one u hu, e, pk_sub (by omega), Nat.add_sub_cancel]
  · have := h.2 v hv
    rw [eg_deg_S] at this
    omega
/-- the law's table of beginnings: four bits an edge -/
def eg_St (tl : Nat → Nat) (C : Nat) (x : Int64) : Prop := ∀ e, e < C → ∀ b, b < 4 → x.toBitVec.getLsbD (4 * e + b) = (tl e).testBit b
theorem eg_st_amt : ∀ c, c < 14 → ((((4 : Int32) * nI c).toInt64 &&& 63).toBitVec.smod 64).toNat = 4 * c := by decide +kernel
theorem eg_st_15 : ∀ b, b < 64 → (15 : Int64).toBitVec.getLsbD b = decide (b < 4) := by decide +kernel
theorem eg_st_15i : ∀ b, b < 32 → (15 : Int32).toBitVec.getLsbD b = decide (b < 4) := by decide +kernel
theorem eg_st_m1 : ∀ b, b < 64 → (-1 : Int64).toBitVec.getLsbD b = true := by decide +kernel
theorem eg_st_u : ∀ u, u < 6 → ∀ b, b < 4 → (nI u).toInt64.toBitVec.getLsbD b = u.testBit b := by decide +kernel
theorem eg_st_v : ∀ u, u < 6 → ∀ b, b < 32 → (nI u).toBitVec.getLsbD b = (decide (b < 4) && u.testBit b) := by decide +kernel
theorem eg_St_get {tl : Nat → Nat} {C c : Nat} {x : Int64} (h : eg_St tl C x) (hC : C ≤ 14) (hc : c < C) (ht : tl c < 6) : ((x >>> (((4 : Int32) * nI c).toInt64 &&& 63)).toInt32) &&& 15 = nI (tl c) := by
  apply Int32.toBitVec_inj.mp
  apply BitVec.eq_of_getLsbD_eq
  intro i hi
  rw [Int32.toBitVec_and, BitVec.getLsbD_and, eg_st_15i i hi, eg_st_v _ ht i hi]
  by_cases q : i < 4
  · rw [decide_eq_true q, Bool.and_true, Bool.true_and, ← h c hc i q]
    show ((x.toBitVec.sshiftRight ((((4 : Int32) * nI c).toInt64 &&& 63).toBitVec.smod 64).toNat).signExtend 32).getLsbD i = _
    rw [eg_st_amt c (by omega), BitVec.getLsbD_signExtend, BitVec.getLsbD_sshiftRight]
    simp [hi, show i < 64 by omega, show 4 * c + i < 64 by omega]
  · rw [decide_eq_false q, Bool.and_false, Bool.false_and]
theorem eg_St_put {tl : Nat → Nat} {C u : Nat} {x : Int64} (h : eg_St tl C x) (hC : C < 14) (hu : u < 6) :
    eg_St (eg_up tl C u) (C + 1) ((x &&& (((15 : Int64) <<< (((4 : Int32) * nI C).toInt64 &&& 63)) ^^^ (-1))) ||| ((nI u).toInt64 <<< (((4 : Int32) * nI C).toInt64 &&& 63))) := by
  intro e he b hb
  have sh : ∀ y : Int64, (y <<< (((4 : Int32) * nI C).toInt64 &&& 63)).toBitVec.getLsbD (4 * e + b) = (decide (C ≤ e) && y.toBitVec.getLsbD (4 * e + b - 4 * C)) := by
    intro y
    show (y.toBitVec <<< ((((4 : Int32) * nI C).toInt64 &&& 63).toBitVec.smod 64).toNat).getLsbD (4 * e + b) = _
    rw [eg_st_amt C hC, BitVec.getLsbD_shiftLeft]
    by_cases q : C ≤ e
    · rw [decide_eq_true q, decide_eq_true (show 4 * e + b < 64 by omega), decide_eq_false (show ¬ 4 * e + b < 4 * C by omega)]
      rfl
    · rw [decide_eq_false q, decide_eq_true (show 4 * e + b < 4 * C by omega), decide_eq_true (show 4 * e + b < 64 by omega)]
      rfl
  rw [Int64.toBitVec_or, BitVec.getLsbD_or, Int64.toBitVec_and, BitVec.getLsbD_and, Int64.toBitVec_xor, BitVec.getLsbD_xor, sh, sh, eg_st_m1 _ (show 4 * e + b < 64 by omega)]
  by_cases q : e = C
  · subst q
    rw [eg_up_s, show 4 * e + b - 4 * e = b by omega, eg_st_u u hu b hb, eg_st_15 b (by omega), decide_eq_true hb, decide_eq_true (Nat.le_refl e)]
    simp
  · rw [eg_up_n q, decide_eq_false (show ¬ C ≤ e by omega), h e (by omega) b hb]
    simp
section
variable {N C T : Nat} {tl hd : Nat → Nat} {gn : Nat → Int} {a1 a2 a3 a4 a5 a6 a7 : Nat → Int32} {nd : Nat → Nat} {cur : Int32}
theorem eg_degree {post : Int32 → Prop} {u : Nat} (hW : eg_W N C T tl hd gn a1 a2 a3) (hu : u < N) (hp : post (nI (eg_deg tl C u))) : wpX_degree post (nI N, nI C, nI T, -1, cur, a1, a2, a3, a4, a5, a6, a7) (nI u) := by
  obtain ⟨hN2, hN6, hC, hT, hE⟩ := id hW
  refine pk_loop (fun n i (_ : Unit) => wX_degree_4 post (nI u) (nI N) (nI C) (nI T) (-1) cur a1 a2 a3 a4 a5 a6 a7 n (nI (eg_deg tl i u)) (nI i)) (fun _ _ => True) C 0 () (by omega) trivial ?_ ?_
  · intro n _ _
    exact pk_le C C (fun _ => hp) (fun z => absurd z (by omega))
  · intro n i _ hi _ hw
    have hw := hw () trivial
    obtain ⟨e1, l1, _⟩ := hE i hi
    rw [eg_deg_S] at hw
    refine pk_le C i (fun z => absurd z (by omega)) (fun _ => ⟨pk_in i 14 (by omega), ?_⟩)
    rw [nI_clamp (show i < 2 ^ 31 by omega), e1]
    refine pk_eq (tl i) u (fun z => nm_r (nI_1 _) (nm_r (nI_1 i) ?_)) (fun z => nm_r (Int32.add_zero _) (nm_r (nI_1 i) ?_))
    · rw [if_pos z] at hw
      exact hw
    · rw [if_neg z] at hw
      exact hw
theorem eg_W_link {u v : Nat} {g : Int32} (hW : eg_W N C T tl hd gn a1 a2 a3) (hC : C < 14) (hu : u < N) (hv : v < N) (g1 : -6 ≤ g.toInt) (g2 : g.toInt ≤ 6) :
    eg_W N (C + 1) T (eg_up tl C u) (eg_up hd C v) (fun j => if j = C then g.toInt else gn j) (upd a1 C (nI u)) (upd a2 C (nI v)) (upd a3 C g) := by
  obtain ⟨hN2, hN6, _, hT, hE⟩ := hW
  refine ⟨hN2, hN6, by omega, hT, lt_s (fun e he => ?_) ?_⟩
  · dsimp only
    have hne : e ≠ C := by omega
    rw [eg_up_n hne, eg_up_n hne, if_neg hne, pk_un hne, pk_un hne, pk_un hne]
    exact hE e he
  · dsimp only
    rw [eg_up_s, eg_up_s, if_pos rfl, pk_us, pk_us, pk_us]
    exact ⟨rfl, hu, rfl, hv, rfl, g1, g2⟩
theorem eg_W_set {k : Nat} {g : Int32} (hW : eg_W N C T tl hd gn a1 a2 a3) (g1 : -6 ≤ g.toInt) (g2 : g.toInt ≤ 6) :
    eg_W N C T tl hd (fun j => if j = k then g.toInt else gn j) a1 a2 (upd a3 k g) := by
  obtain ⟨hN2, hN6, hC, hT, hE⟩ := hW
  refine ⟨hN2, hN6, hC, hT, fun e he => ?_⟩
  obtain ⟨e1, l1, e2, l2, e3, q1, q2⟩ := hE e he
  dsimp only
  by_cases q : e = k
  · rw [if_pos q, q, pk_us, ← q]
    exact ⟨e1, l1, e2, l2, rfl, g1, g2⟩
  · rw [if_neg q, pk_un q]
    exact ⟨e1, l1, e2, l2, e3, q1, q2⟩
theorem eg_W_cut (hW : eg_W N (C + 1) T tl hd gn a1 a2 a3) : eg_W N C T tl hd gn a1 a2 a3 := by
  obtain ⟨hN2, hN6, hC, hT, hE⟩ := hW
  exact ⟨hN2, hN6, by omega, hT, fun e he => hE e (by omega)⟩
theorem eg_g1 {g : Int32} (g1 : -6 ≤ g.toInt) : ¬ g < -6 := by
  rw [Int32.lt_iff_toInt_lt, show (-6 : Int32).toInt = -6 from by decide]
  omega
theorem eg_g2 {g : Int32} (g2 : g.toInt ≤ 6) : g ≤ 6 := by
  rw [Int32.le_iff_toInt_le, show (6 : Int32).toInt = 6 from by decide]
  omega
theorem eg_link {post : Int32 → St2 → Prop} {u v : Nat} {g : Int32} (hW : eg_W N C T tl hd gn a1 a2 a3) (hu : u < N) (hv : v < N) (g1 : -6 ≤ g.toInt) (g2 : g.toInt ≤ 6) (hd3 : eg_deg tl C u ≤ 3)
    (H0 : ∀ r : Int32, r < 0 → post r (nI N, nI C, nI T, -1, cur, a1, a2, a3, a4, a5, a6, a7))
    (H1 : C < 14 → ¬ eg_deg tl C u = 3 → post (nI C) (nI N, nI (C + 1), nI T, -1, 0, upd a1 C (nI u), upd a2 C (nI v), upd a3 C g, a4, a5, a6, a7)) :
    wpX_link post (nI N, nI C, nI T, -1, cur, a1, a2, a3, a4, a5, a6, a7) (nI u) (nI v) g := by
  obtain ⟨hN2, hN6, hC, hT, hE⟩ := id hW
  unfold wpX_link
  dsimp only
  refine eg_isV hN6 hu (br_f (by decide) (eg_isV hN6 hv (br_f (by decide) (br_f (eg_g1 g1) (br_t (eg_g2 g2) ?_)))))
  refine pk_eq C 14 (fun _ => H0 _ (by decide)) (fun z => eg_degree hW hu ?_)
  refine pk_eq (eg_deg tl C u) 3 (fun _ => H0 _ (by decide)) (fun y => ?_)
  rw [nI_clamp (show C < 2 ^ 31 by omega)]
  refine ⟨pk_in C 14 (by omega), nm_e ⟨pk_in C 14 (by omega), nm_e ⟨pk_in C 14 (by omega), nm_e (nm_r (nI_1 C) ?_)⟩⟩⟩
  rw [nI_pred]
  exact H1 (by omega) y
theorem eg_set {post : Int32 → St2 → Prop} {k : Nat} {g : Int32} (hW : eg_W N C T tl hd gn a1 a2 a3) (hk : k < 2 ^ 31) (g1 : -6 ≤ g.toInt) (g2 : g.toInt ≤ 6)
    (H0 : ∀ r : Int32, post r (nI N, nI C, nI T, -1, cur, a1, a2, a3, a4, a5, a6, a7))
    (H1 : ∀ r : Int32, post r (nI N, nI C, nI T, -1, 0, a1, a2, upd a3 k g, a4, a5, a6, a7)) :
    wpX_set post (nI N, nI C, nI T, -1, cur, a1, a2, a3, a4, a5, a6, a7) (nI k) g := by
  obtain ⟨hN2, hN6, hC, hT, hE⟩ := id hW
  unfold wpX_set
  dsimp only
  unfold wpX_isEdge
  dsimp only
  refine br_f (nI_pos hk) (pk_le C k (fun _ => br_t rfl (H0 _)) (fun z => br_f (by decide) (br_f (eg_g1 g1) (br_t (eg_g2 g2) ⟨pk_in k 14 (by omega), nm_e ⟨pk_in k 14 (by omega), ?_⟩⟩))))
  rw [nI_clamp hk]
  exact nm_e (H1 _)
theorem eg_give {post : Int32 → St2 → Prop} {u : Nat} {p : Int32} (hp : p = 0 ∨ p = 1) (hN6 : N ≤ 6) (hu : u < N)
    (H : ∀ r : Int32, post r (nI N, nI C, nI T, -1, 0, a1, a2, a3, upd a4 u p, a5, a6, a7)) :
    wpX_give post (nI N, nI C, nI T, -1, cur, a1, a2, a3, a4, a5, a6, a7) (nI u) p := by
  have h22 : wX_give_22 post (nI u) p (nI N) (nI C) (nI T) (-1) cur a1 a2 a3 a4 a5 a6 a7 := by
    unfold wX_give_22
    rw [nI_clamp (show u < 2 ^ 31 by omega)]
    exact ⟨pk_in u 6 (by omega), nm_e ⟨pk_in u 6 (by omega), nm_e (H _)⟩⟩
  unfold wpX_give
  dsimp only
  refine eg_isV hN6 hu (br_f (by decide) ?_)
  by_cases h0 : p = 0
  · exact br_t h0 h22
  · exact br_f h0 (br_t (hp.resolve_left h0) h22)
theorem eg_cut {post : Int32 → St2 → Prop} {c : Nat} (hc : c < 14)
    (H : post (nI c) (nI N, nI c, nI T, -1, 0, a1, a2, a3, a4, a5, a6, a7)) :
    wpX_cut post (nI N, nI (c + 1), nI T, -1, cur, a1, a2, a3, a4, a5, a6, a7) (nI c) := by
  unfold wpX_cut
  dsimp only
  unfold wpX_isEdge
  dsimp only
  refine br_f (nI_pos (by omega)) (pk_le (c + 1) c (fun z => absurd z (by omega)) (fun _ => br_f (by decide) (nm_r (nI_1 c) ⟨1, ?_⟩)))
  exact pk_le (c + 1) (c + 1) (fun _ => nm_r (nI_pred c) H) (fun z => absurd z (by omega))
end
end
section
/-! ===== 07: the law's loop ===== -/
theorem eg_credit (x : Int32) : (((x >>> ((8 : Int32) &&& 31)) &&& 63) - 1).toInt ≤ ((((x >>> ((8 : Int32) &&& 31)) &&& 63) - 1) + 1).toInt := by
  obtain ⟨j, hj, e⟩ := pk_andE (x >>> ((8 : Int32) &&& 31)) 6 (m := 63) (by decide)
  rw [e, Int32.sub_add_cancel, show nI j - 1 = nI j - nI 1 from rfl, pk_sub_toInt (by omega) (by omega), nI_toInt (by omega)]
  omega
theorem eg_cell {post : Int32 → Prop} {L : Nat} {xs : Nat → Int32} {x : Int32} {k : Nat} (hL : L ≤ 260) (hk : k < 2 ^ 31) (hx : x = nI k) (H : ∀ r, post r) : wpL_cell post L xs () x := by
  subst hx
  exact pk_le L k (fun _ => H 0) (fun c => ⟨pk_in k L c, H _⟩)
theorem eg_rem {x : Int32} {N : Nat} (h0 : 0 < N) (hN : N < 2 ^ 31) : ∃ u, u < N ∧ (x &&& 7) - (x &&& 7) / nI N * nI N = nI u := by
  obtain ⟨q, hq, e⟩ := pk_andE x 3 (m := 7) (by decide)
  rw [e]
  exact ⟨q % N, Nat.mod_lt _ h0, pk_rem (by omega) h0 hN⟩
theorem eg_gain (x : Int32) : -6 ≤ (((x &&& 15) - (x &&& 15) / 13 * 13) - 6).toInt ∧ (((x &&& 15) - (x &&& 15) / 13 * 13) - 6).toInt ≤ 6 := by
  obtain ⟨q, hq, e⟩ := pk_andE x 4 (m := 15) (by decide)
  rw [e, show nI q - nI q / 13 * 13 = nI (q % 13) from pk_rem (d := 13) (by omega) (by omega) (by omega), show nI (q % 13) - 6 = nI (q % 13) - nI 6 from rfl, pk_sub_toInt (by omega) (by omega)]
  omega
theorem eg_bit (x : Int32) : x &&& 1 = 0 ∨ x &&& 1 = 1 := by
  obtain ⟨q, hq, e⟩ := pk_andE x 1 (m := 1) (by decide)
  rw [e]
  rcases (show q = 0 ∨ q = 1 by omega) with z | z
  · subst z
    exact Or.inl rfl
  · subst z
    exact Or.inr rfl
section
variable {N T : Nat}
theorem eg_260 {C : Nat} {tl hd : Nat → Nat} {gn : Nat → Int} {a1 a2 a3 a4 a5 a6 a7 : Nat → Int32} {cur : Int32} {post : Int32 → Prop} {L : Nat} {xs : Nat → Int32} {J : Int32 → Int64 → Int32 → Int32 → Int32 → Int32 → Int32 → Int32 → (Nat → Int32) → (Nat → Int32) → (Nat → Int32) → (Nat → Int32) → (Nat → Int32) → (Nat → Int32) → (Nat → Int32) → Prop} {x3 : Int32} {x4 : Int64} {x6 x8 : Int32} {kc ks : Nat}
    (hW : eg_W N C T tl hd gn a1 a2 a3) (hc : eg_Cur N C T tl hd gn a4 cur a5) (hO : eg_Outs tl C x3)
    (HJ : ∀ cur' a5' a6' a7', eg_Cur N C T tl hd gn a4 cur' a5' → J x3 x4 (x6 + 2) (nI N) (nI C) (nI T) (-1) cur' a1 a2 a3 a4 a5' a6' a7') :
    wL_law_260 post L xs J (nI N) x3 x4 x6 x8 kc ks (nI N) (nI C) (nI T) (-1) cur a1 a2 a3 a4 a5 a6 a7 := by
  have hN6 := hW.2.1
  unfold wL_law_260
  refine eg_holds hW hc (eg_credit x8) (fun v hv => eg_Outs_leads hO (by omega)) (fun cur' b5 b6 b7 h => ?_)
  dsimp only
  exact br_f (by decide) (nm_e (HJ cur' b5 b6 b7 h))
theorem eg_30 {L : Nat} {xs : Nat → Int32} {kc ks : Nat} (hL : L ≤ 260) :
    ∀ (n k C : Nat) (tl hd : Nat → Nat) (gn : Nat → Int) (outs : Int32) (starts : Int64) (cur : Int32) (a1 a2 a3 a4 a5 a6 a7 : Nat → Int32), eg_W N C T tl hd gn a1 a2 a3 → eg_Cur N C T tl hd gn a4 cur a5 → eg_Outs tl C outs → eg_St tl C starts → k ≤ L + 1 → L + 1 < n + k →
      wL_law_30 (fun r => r = 1) L xs (nI N) kc ks n outs starts (nI k) (nI N) (nI C) (nI T) (-1) cur a1 a2 a3 a4 a5 a6 a7 := by
  intro n
  induction n with
  | zero =>
    intro k C tl hd gn outs starts cur a1 a2 a3 a4 a5 a6 a7 hW hc hO hS hk hn
    exact absurd hn (by omega)
  | succ n ih =>
    intro k C tl hd gn outs starts cur a1 a2 a3 a4 a5 a6 a7 hW hc hO hS hk hn
    obtain ⟨hN2, hN6, hC, hT, hE⟩ := id hW
    refine pk_le L k (fun _ => rfl) (fun hkL => ?_)
    refine eg_cell (k := k) hL (by omega) rfl (fun c => ?_)
    refine eg_cell (k := k + 1) hL (by omega) (nI_1 k) (fun d => ?_)
    have step : ∀ (C : Nat) (tl hd : Nat → Nat) (gn : Nat → Int) (outs : Int32) (starts : Int64) (cur : Int32) (a1 a2 a3 a4 a5 a6 a7 : Nat → Int32), eg_W N C T tl hd gn a1 a2 a3 → eg_Cur N C T tl hd gn a4 cur a5 → eg_Outs tl C outs → eg_St tl C starts →
        wL_law_260 (fun r => r = 1) L xs (wL_law_30 (fun r => r = 1) L xs (nI N) kc ks n) (nI N) outs starts (nI k) d kc ks (nI N) (nI C) (nI T) (-1) cur a1 a2 a3 a4 a5 a6 a7 := by
      intro C tl hd gn outs starts cur a1 a2 a3 a4 a5 a6 a7 hW hc hO hS
      refine eg_260 hW hc hO (fun cur' b5 b6 b7 h => ?_)
      rw [show nI k + 2 = nI (k + 2) from nI_add k 2]
      exact ih (k + 2) C tl hd gn outs starts cur' a1 a2 a3 a4 b5 b6 b7 hW h hO hS (by omega) (by omega)
    obtain ⟨j, hj, ej⟩ := pk_andE c 4 (m := 15) (by decide)
    obtain ⟨u, hu, eu⟩ := eg_rem (x := c >>> ((4 : Int32) &&& 31)) (N := N) (by omega) (by omega)
    obtain ⟨v, hv, ev⟩ := eg_rem (x := c >>> ((7 : Int32) &&& 31)) (N := N) (by omega) (by omega)
    have hN0 : ¬ nI N = 0 := nI_ne0 (by omega) (by omega)
    refine nm_r ej ⟨hN0, nm_r eu ⟨hN0, nm_r ev ⟨by decide, fun g hg => ?_⟩⟩⟩
    have g1 : -6 ≤ g.toInt := by
      rw [hg]
      exact (eg_gain d).1
    have g2 : g.toInt ≤ 6 := by
      rw [hg]
      exact (eg_gain d).2
    clear hg
    refine pk_le 9 j (fun _ => pk_le 11 j (fun _ => pk_le 14 j (fun _ => ?_) (fun _ => ?_)) (fun _ => ?_)) (fun _ => ?_)
    · unfold wpX_edges
      dsimp only
      cases C with
      | zero => exact nm_e (br_t (by decide) (step 0 tl hd gn outs starts cur a1 a2 a3 a4 a5 a6 a7 hW hc hO hS))
      | succ m =>
        have ht := (hE m (by omega)).2.1
        refine nm_r (nI_pred m) (br_f (nI_pos (by omega)) (br_c (fun _ => eg_cut (by omega) ?_) (fun _ => step (m + 1) tl hd gn outs starts cur a1 a2 a3 a4 a5 a6 a7 hW hc hO hS)))
        dsimp only
        refine br_t rfl (nm_r (eg_St_get hS hC (by omega) (by omega)) (nm_e ?_))
        exact step m tl hd gn _ starts 0 a1 a2 a3 a4 a5 a6 a7 (eg_W_cut hW) (Or.inl rfl) (eg_Outs_cut hO (by omega) rfl) (fun e he => hS e (by omega))
    · exact eg_give (eg_bit d) hN6 hu (fun r => step C tl hd gn outs starts 0 a1 a2 a3 _ a5 a6 a7 hW (Or.inl rfl) hO hS)
    · obtain ⟨q, hq, eq⟩ := pk_andE (d >>> ((4 : Int32) &&& 31)) 4 (m := 15) (by decide)
      rw [eq]
      exact eg_set hW (by omega) g1 g2 (fun r => step C tl hd gn outs starts cur a1 a2 a3 a4 a5 a6 a7 hW hc hO hS) (fun r => step C tl hd _ outs starts 0 a1 a2 _ a4 a5 a6 a7 (eg_W_set hW g1 g2) (Or.inl rfl) hO hS)
    · refine eg_link hW hu hv g1 g2 (hO.2 u (by omega)) (fun r hr => ?_) (fun hC' hd3 => ?_)
      · dsimp only
        exact br_t hr (step C tl hd gn outs starts cur a1 a2 a3 a4 a5 a6 a7 hW hc hO hS)
      · dsimp only
        exact br_f (nI_pos (by omega)) (nm_e (nm_e (step (C + 1) _ _ _ _ _ 0 _ _ _ a4 a5 a6 a7 (eg_W_link hW hC' hu hv g1 g2) (Or.inl rfl) (eg_Outs_link hO (by omega) hd3) (eg_St_put hS hC' (by omega)))))
end
end
section
/-! ===== 08: what is owed ===== -/
theorem i_vc (xs : Nat → Int32) (L : Nat) (hL : L ≤ 260) : wpL_law (fun r => r = 1) L xs := by
  unfold wpL_law
  refine eg_cell (k := 0) hL (by omega) rfl (fun c => ?_)
  obtain ⟨q, hq, e⟩ := pk_andE c 31 (m := 2147483647) (by decide)
  rw [e]
  have hr : nI q - nI q / 5 * 5 = nI (q % 5) := pk_rem (d := 5) (by omega) (by omega) (by omega)
  have eN : 2 + (nI q - nI q / 5 * 5) = nI (2 + q % 5) := by
    rw [hr]
    exact nI_add 2 (q % 5)
  have hN2 : 2 ≤ 2 + q % 5 := by omega
  have hN6 : 2 + q % 5 ≤ 6 := by omega
  revert eN hN2 hN6
  generalize 2 + q % 5 = N
  intro eN hN2 hN6
  have hT : (6 : Int32) * (nI N - 1) + 1 = nI (6 * (N - 1) + 1) := by
    show nI 6 * (nI N - nI 1) + nI 1 = _
    rw [pk_sub (by omega), pk_mul, nI_add]
  refine ⟨by decide, nm_r eN ⟨7, 68, by decide, by decide, ?_⟩⟩
  unfold wpX_init
  dsimp only
  refine ⟨by decide, by decide, by decide, by decide, by decide, by decide, by decide, by decide, by decide, by decide, by decide, by decide, by decide, by decide, ?_⟩
  refine br_t (show nI 2 ≤ nI N from nI_le hN2 (by omega)) (br_t (show nI N ≤ nI 6 from nI_le hN6 (by omega)) (nm_r hT ⟨L + 1, ?_⟩))
  exact eg_30 (N := N) (T := 6 * (N - 1) + 1) hL (L + 1) 1 0 (fun _ => 0) (fun _ => 0) (fun _ => 0) 0 0 0 _ _ _ _ _ _ _ ⟨hN2, hN6, by omega, rfl, lt_0⟩ (Or.inl rfl) ⟨by decide, fun v _ => Nat.zero_le _⟩ lt_0 (by omega) (by omega)
end
