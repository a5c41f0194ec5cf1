section
/-! the pure picture: programs, threads, following, searching -/
/-- the place that an instruction leads to -/
def rc_tg (f : Nat → Int32) (p : Nat) : Nat := (nI p + f p).toNatClampNeg
/-- the mark of an instruction and its number of idle rounds -/
def rc_key (c : Nat → Int32) (p i : Nat) : Nat := p * 17 + (if c p = 0 ∨ c p = 4 then 0 else i)
/-- the notes behind a note instruction -/
def rc_nt (f : Nat → Int32) (pl p : Nat) (nt : Nat → Int32) : Nat → Int32 := upd nt (f p).toNatClampNeg (if f p < 3 then 16 * nt (f p + 3).toNatClampNeg + nI pl else nI pl)
/-- what is pushed, the last one first -/
def rc_su (c f s : Nat → Int32) (pl p i : Nat) (nt : Nat → Int32) : List (Nat × Nat × (Nat → Int32)) :=
  if c p = 1 then [(rc_tg f p, i, nt), (rc_tg s p, i, nt)]
  else if c p = 5 then [(rc_tg f p, i + 1, nt), (rc_tg s p, i, nt)]
  else if c p = 6 then [(rc_tg s p, i, nt), (rc_tg f p, i + 1, nt)]
  else if c p = 2 then [(rc_tg f p, i, nt)]
  else if c p = 7 then (if i = 0 then [(rc_tg f p, i, nt)] else [])
  else if c p = 3 then [(p + 1, i, rc_nt f pl p nt)]
  else []
/-- following what waits -/
def rc_fo (c f s : Nat → Int32) (pl : Nat) : Nat → List (Nat × Nat × (Nat → Int32)) → List Nat → List (Nat × (Nat → Int32)) → List Nat × List (Nat × (Nat → Int32))
  | 0, _, se, nx => (se, nx)
  | _ + 1, [], se, nx => (se, nx)
  | k + 1, x :: r, se, nx =>
    if rc_key c x.1 x.2.1 ∈ se then rc_fo c f s pl k r se nx
    else rc_fo c f s pl k (rc_su c f s pl x.1 x.2.1 x.2.2 ++ r) (rc_key c x.1 x.2.1 :: se) (if c x.1 = 0 ∨ c x.1 = 4 then nx ++ [(x.1, x.2.2)] else nx)
/-- a step of all threads: the notes that were accepted, the marks, the next threads -/
def rc_th (c f s t : Nat → Int32) (n pl : Nat) (ac : Int32) : List (Nat × (Nat → Int32)) → List Nat → List (Nat × (Nat → Int32)) → Option (Nat → Int32) × List Nat × List (Nat × (Nat → Int32))
  | [], se, nx => (none, se, nx)
  | x :: r, se, nx =>
    if c x.1 = 4 then (if ac < 0 ∨ ac = nI pl then (some x.2, se, nx) else rc_th c f s t n pl ac r se nx)
    else if pl < n ∧ (f x.1 = 3 ∨ f x.1 = t pl) then
      rc_th c f s t n pl ac r (rc_fo c f s (pl + 1) 1300 [(x.1 + 1, 0, x.2)] se nx).1 (rc_fo c f s (pl + 1) 1300 [(x.1 + 1, 0, x.2)] se nx).2
    else rc_th c f s t n pl ac r se nx
/-- what stands when a step accepted o or nothing -/
def rc_up (o : Option (Nat → Int32)) (pl : Nat) (R : Option (Nat × (Nat → Int32))) : Option (Nat × (Nat → Int32)) := match o with
  | none => R
  | some nt => some (pl, nt)
/-- the steps from a place on, k of them at most -/
def rc_se (c f s t : Nat → Int32) (n : Nat) (ac : Int32) : Nat → Nat → List (Nat × (Nat → Int32)) → Option (Nat × (Nat → Int32)) → Option (Nat × (Nat → Int32))
  | 0, _, _, R => R
  | k + 1, pl, ths, R => if ths = [] then R else rc_se c f s t n ac k (pl + 1) (rc_th c f s t n pl ac ths [] []).2.2 (rc_up (rc_th c f s t n pl ac ths [] []).1 pl R)
/-- the search from a place -/
def rc_sr (c f s t : Nat → Int32) (n fr : Nat) (ac : Int32) : Option (Nat × (Nat → Int32)) :=
  rc_se c f s t n ac (n + 1 - fr) fr (rc_fo c f s fr 1300 [(0, 0, fun _ => -4)] [] []).2 none
/-- the find from a place on, k tries -/
def rc_fi (c f s t : Nat → Int32) (n : Nat) : Nat → Nat → Option (Nat × Nat × (Nat → Int32))
  | 0, _ => none
  | k + 1, i => match rc_sr c f s t n i (-1) with
    | some (e, nt) => some (i, e, nt)
    | none => rc_fi c f s t n k (i + 1)
def rc_find (c f s t : Nat → Int32) (n i : Nat) : Option (Nat × Nat × (Nat → Int32)) := rc_fi c f s t n (n + 1 - i) i
/-! programs that are sound: D bounds the idle rounds, G says which groups have begun -/
def rc_ed (D : Nat → Nat) (G : Nat → Nat → Prop) (lo hi p q d : Nat) : Prop := lo ≤ q ∧ q ≤ hi ∧ D p + d ≤ D q ∧ ∀ g, G q g → G p g
def rc_ok (c f s : Nat → Int32) (D : Nat → Nat) (G : Nat → Nat → Prop) (lo hi p : Nat) : Prop :=
  (c p = 0 ∧ p + 1 ≤ hi ∧ ∀ g, G (p + 1) g → G p g)
  ∨ (c p = 1 ∧ (∃ q, nI p + f p = nI q ∧ rc_ed D G lo hi p q 0) ∧ ∃ q, nI p + s p = nI q ∧ rc_ed D G lo hi p q 0)
  ∨ ((c p = 5 ∨ c p = 6) ∧ (∃ q, nI p + f p = nI q ∧ rc_ed D G lo hi p q 1) ∧ ∃ q, nI p + s p = nI q ∧ rc_ed D G lo hi p q 0)
  ∨ (c p = 2 ∧ ∃ q, nI p + f p = nI q ∧ rc_ed D G lo hi p q 0)
  ∨ (c p = 7 ∧ ∃ q, nI p + f p = nI q ∧ lo ≤ q ∧ q ≤ hi ∧ ∀ g, G q g → G p g)
  ∨ (c p = 3 ∧ p + 1 ≤ hi ∧ D p ≤ D (p + 1) ∧ ∃ z, z < 6 ∧ f p = nI z ∧ (z < 3 → G p z ∧ ∀ g, G (p + 1) g → G p g) ∧ (3 ≤ z → ∀ g, G (p + 1) g → g + 3 = z ∨ G p g))
def rc_WF (c f s : Nat → Int32) (sz : Nat) (D : Nat → Nat) (G : Nat → Nat → Prop) : Prop :=
  1 ≤ sz ∧ sz ≤ 33 ∧ (∀ p, p < sz → D p ≤ 16) ∧ (∀ g, ¬ G 0 g) ∧ ∀ p, p < sz → c p = 4 ∨ rc_ok c f s D G 0 (sz - 1) p
/-- notes that are sound for a thread from fr on, now at pl, that stands at p -/
def rc_no (G : Nat → Nat → Prop) (fr pl p : Nat) (nt : Nat → Int32) : Prop :=
  (∀ g, g < 3 → nt g = -4 ∨ ∃ b e, fr ≤ b ∧ b ≤ e ∧ e ≤ pl ∧ nt g = nI (16 * b + e)) ∧ ∀ g, g < 3 → G p g → ∃ b, fr ≤ b ∧ b ≤ pl ∧ nt (g + 3) = nI b
def rc_io (D : Nat → Nat) (G : Nat → Nat → Prop) (sz fr pl : Nat) (x : Nat × Nat × (Nat → Int32)) : Prop := x.1 < sz ∧ x.2.1 ≤ D x.1 ∧ rc_no G fr pl x.1 x.2.2
def rc_to (c : Nat → Int32) (G : Nat → Nat → Prop) (sz fr pl : Nat) (y : Nat × (Nat → Int32)) : Prop := y.1 < sz ∧ (c y.1 = 0 ∨ c y.1 = 4) ∧ rc_no G fr pl y.1 y.2
def rc_TI (c : Nat → Int32) (G : Nat → Nat → Prop) (sz fr pl : Nat) (ths : List (Nat × (Nat → Int32))) : Prop := (∀ y, y ∈ ths → rc_to c G sz fr pl y) ∧ (ths.map Prod.fst).Nodup
def rc_SI (sz : Nat) (se : List Nat) : Prop := se.Nodup ∧ ∀ m, m ∈ se → m < 17 * sz
def rc_FI (c : Nat → Int32) (D : Nat → Nat) (G : Nat → Nat → Prop) (sz fr pl : Nat) (stk : List (Nat × Nat × (Nat → Int32))) (se : List Nat) (nx : List (Nat × (Nat → Int32))) : Prop :=
  (∀ x, x ∈ stk → rc_io D G sz fr pl x) ∧ rc_SI sz se ∧ rc_TI c G sz fr pl nx ∧ (∀ y, y ∈ nx → y.1 * 17 ∈ se) ∧ stk.length ≤ se.length + 1
/-! lists, marks -/
theorem rc_pig : ∀ (n : Nat) (l : List Nat), l.Nodup → (∀ x, x ∈ l → x < n) → l.length ≤ n := by
  intro n
  induction n with
  | zero =>
    intro l _ h
    cases l with
    | nil => exact Nat.le_refl 0
    | cons a r => exact absurd (h a (List.mem_cons_self)) (by omega)
  | succ n ih =>
    intro l hn h
    by_cases e : n ∈ l
    · have h1 : (l.erase n).length ≤ n := by
        refine ih _ (hn.erase n) (fun x hx => ?_)
        have h2 := (hn.mem_erase_iff).mp hx
        have h3 := h x h2.2
        have h4 := h2.1
        omega
      have h5 := List.length_erase_of_mem e
      omega
    · have h1 : l.length ≤ n := by
        refine ih l hn (fun x hx => ?_)
        have h3 := h x hx
        have h4 : x ≠ n := fun q => e (q ▸ hx)
        omega
      omega
theorem rc_SI_len {sz : Nat} {se : List Nat} (h : rc_SI sz se) : se.length ≤ 17 * sz := rc_pig _ _ h.1 h.2
theorem rc_TI_len {c : Nat → Int32} {G : Nat → Nat → Prop} {sz fr pl : Nat} {ths : List (Nat × (Nat → Int32))} (h : rc_TI c G sz fr pl ths) : ths.length ≤ sz := by
  have h1 := rc_pig sz (ths.map Prod.fst) h.2 (fun x hx => by
    obtain ⟨y, hy, e⟩ := List.mem_map.mp hx
    rw [← e]
    exact (h.1 y hy).1)
  rw [List.length_map] at h1
  exact h1
theorem rc_key_s {c : Nat → Int32} {p i : Nat} (h : c p = 0 ∨ c p = 4) : rc_key c p i = p * 17 := by
  unfold rc_key
  rw [if_pos h]
  rfl
theorem rc_key_n {c : Nat → Int32} {p i : Nat} (h : ¬ (c p = 0 ∨ c p = 4)) : rc_key c p i = p * 17 + i := by
  unfold rc_key
  rw [if_neg h]
theorem rc_key_b (c : Nat → Int32) (p i : Nat) : ∃ j, j ≤ i ∧ rc_key c p i = p * 17 + j := by
  by_cases h : c p = 0 ∨ c p = 4
  · exact ⟨0, by omega, rc_key_s h⟩
  · exact ⟨i, by omega, rc_key_n h⟩
theorem rc_key_lt (c : Nat → Int32) {p i sz : Nat} (h : p < sz) (hi : i ≤ 16) : rc_key c p i < 17 * sz := by
  obtain ⟨j, hj, e⟩ := rc_key_b c p i
  omega
theorem rc_key_p {c : Nat → Int32} {p i q j : Nat} (hi : i ≤ 16) (hj : j ≤ 16) (e : rc_key c p i = rc_key c q j) : p = q := by
  obtain ⟨a, ha, ea⟩ := rc_key_b c p i
  obtain ⟨b, hb, eb⟩ := rc_key_b c q j
  omega
/-! what is pushed -/
theorem rc_tg_eq {f : Nat → Int32} {p q : Nat} (h : nI p + f p = nI q) (hq : q < 2 ^ 31) : rc_tg f p = q := by
  unfold rc_tg
  rw [h, nI_clamp hq]
theorem rc_su_s {c f s : Nat → Int32} {pl p i : Nat} {nt : Nat → Int32} (h : c p = 0 ∨ c p = 4) : rc_su c f s pl p i nt = [] := by
  unfold rc_su
  rcases h with h | h <;> rw [h] <;> rfl
theorem rc_su_len (c f s : Nat → Int32) (pl p i : Nat) (nt : Nat → Int32) : (rc_su c f s pl p i nt).length ≤ 2 := by
  unfold rc_su
  repeat' split
  all_goals simp
theorem rc_su_ind {c f s : Nat → Int32} {pl p i : Nat} {nt : Nat → Int32} {x : Nat × Nat × (Nat → Int32)} (h : x ∈ rc_su c f s pl p i nt) (pl' : Nat) (nt' : Nat → Int32) : ∃ y, y ∈ rc_su c f s pl' p i nt' ∧ y.1 = x.1 ∧ y.2.1 = x.2.1 := by
  have e : (rc_su c f s pl p i nt).map (fun x => (x.1, x.2.1)) = (rc_su c f s pl' p i nt').map (fun x => (x.1, x.2.1)) := by
    unfold rc_su
    repeat' split
    all_goals rfl
  have h1 : (x.1, x.2.1) ∈ (rc_su c f s pl p i nt).map (fun x => (x.1, x.2.1)) := List.mem_map.mpr ⟨x, h, rfl⟩
  rw [e] at h1
  obtain ⟨y, hy, ey⟩ := List.mem_map.mp h1
  exact ⟨y, hy, (Prod.mk.inj ey).1, (Prod.mk.inj ey).2⟩
theorem rc_no_mono {G : Nat → Nat → Prop} {fr pl pl' p q : Nat} {nt : Nat → Int32} (h : rc_no G fr pl p nt) (hl : pl ≤ pl') (hg : ∀ g, G q g → G p g) : rc_no G fr pl' q nt := by
  refine ⟨fun g hg3 => ?_, fun g hg3 hq => ?_⟩
  · rcases h.1 g hg3 with e | ⟨b, e, h1, h2, h3, h4⟩
    · exact Or.inl e
    · exact Or.inr ⟨b, e, h1, h2, by omega, h4⟩
  · obtain ⟨b, h1, h2, h3⟩ := h.2 g hg3 (hg g hq)
    exact ⟨b, h1, by omega, h3⟩
theorem rc_no_nt {G : Nat → Nat → Prop} {f : Nat → Int32} {fr pl p z : Nat} {nt : Nat → Int32} (h : rc_no G fr pl p nt) (hfr : fr ≤ pl) (hz : z < 6) (hf : f p = nI z) (h1 : z < 3 → G p z ∧ ∀ g, G (p + 1) g → G p g) (h2 : 3 ≤ z → ∀ g, G (p + 1) g → g + 3 = z ∨ G p g) : rc_no G fr pl (p + 1) (rc_nt f pl p nt) := by
  unfold rc_nt
  rw [hf, nI_clamp (show z < 2 ^ 31 by omega)]
  by_cases hc : z < 3
  · obtain ⟨g1, g2⟩ := h1 hc
    obtain ⟨b, b1, b2, b3⟩ := h.2 z hc g1
    rw [if_pos (show nI z < 3 from nI_lt (b := 3) hc (by omega))]
    rw [show nI z + 3 = nI (z + 3) from nI_add z 3, nI_clamp (show z + 3 < 2 ^ 31 by omega), b3]
    rw [show (16 : Int32) * nI b + nI pl = nI (16 * b + pl) from by
      rw [show (16 : Int32) * nI b = nI (16 * b) from pk_mul 16 b, nI_add]]
    refine ⟨fun g hg => ?_, fun g hg hq => ?_⟩
    · by_cases e : g = z
      · rw [e, pk_us]
        exact Or.inr ⟨b, pl, b1, b2, Nat.le_refl _, rfl⟩
      · rw [pk_un e]
        exact h.1 g hg
    · rw [pk_un (show g + 3 ≠ z by omega)]
      exact h.2 g hg (g2 g hq)
  · rw [if_neg (show ¬ nI z < 3 from nI_nlt (b := 3) (by omega) (by omega))]
    refine ⟨fun g hg => ?_, fun g hg hq => ?_⟩
    · rw [pk_un (show g ≠ z by omega)]
      exact h.1 g hg
    · by_cases e : g + 3 = z
      · rw [e, pk_us]
        exact ⟨pl, hfr, Nat.le_refl _, rfl⟩
      · rw [pk_un e]
        rcases h2 (by omega) g hq with q | q
        · exact absurd q e
        · exact h.2 g hg q
theorem rc_su_ok {c f s : Nat → Int32} {D : Nat → Nat} {G : Nat → Nat → Prop} {sz fr pl p i : Nat} {nt : Nat → Int32} (w : rc_WF c f s sz D G) (hfr : fr ≤ pl) (hx : rc_io D G sz fr pl (p, i, nt)) : ∀ y, y ∈ rc_su c f s pl p i nt → rc_io D G sz fr pl y := by
  obtain ⟨w1, w2, w3, w4, w5⟩ := w
  obtain ⟨x1, x2, x3⟩ := hx
  dsimp only at x1 x2 x3
  intro y hy
  rcases w5 p x1 with e | e | e | e | e | e | e
  · rw [rc_su_s (Or.inr e)] at hy
    exact absurd hy (List.not_mem_nil)
  · rw [rc_su_s (Or.inl e.1)] at hy
    exact absurd hy (List.not_mem_nil)
  · obtain ⟨e0, ⟨q, q1, q2, q3, q4, q5⟩, r, r1, r2, r3, r4, r5⟩ := e
    have hs : rc_su c f s pl p i nt = [(q, i, nt), (r, i, nt)] := by
      unfold rc_su
      rw [if_pos e0, rc_tg_eq q1 (by omega), rc_tg_eq r1 (by omega)]
    rw [hs] at hy
    rcases List.mem_cons.mp hy with e | e
    · rw [e]
      exact ⟨by show q < sz; omega, by show i ≤ D q; omega, rc_no_mono x3 (Nat.le_refl _) q5⟩
    · rw [List.mem_singleton.mp e]
      exact ⟨by show r < sz; omega, by show i ≤ D r; omega, rc_no_mono x3 (Nat.le_refl _) r5⟩
  · obtain ⟨e0, ⟨q, q1, q2, q3, q4, q5⟩, r, r1, r2, r3, r4, r5⟩ := e
    have hs : y = (q, i + 1, nt) ∨ y = (r, i, nt) := by
      unfold rc_su at hy
      rw [rc_tg_eq q1 (by omega), rc_tg_eq r1 (by omega)] at hy
      rcases e0 with e0 | e0
      · rw [e0] at hy
        rcases List.mem_cons.mp hy with e | e
        · exact Or.inl e
        · exact Or.inr (List.mem_singleton.mp e)
      · rw [e0] at hy
        rcases List.mem_cons.mp hy with e | e
        · exact Or.inr e
        · exact Or.inl (List.mem_singleton.mp e)
    rcases hs with e | e
    · rw [e]
      exact ⟨by show q < sz; omega, by show i + 1 ≤ D q; omega, rc_no_mono x3 (Nat.le_refl _) q5⟩
    · rw [e]
      exact ⟨by show r < sz; omega, by show i ≤ D r; omega, rc_no_mono x3 (Nat.le_refl _) r5⟩
  · obtain ⟨e0, q, q1, q2, q3, q4, q5⟩ := e
    have hs : y = (q, i, nt) := by
      unfold rc_su at hy
      rw [rc_tg_eq q1 (by omega), e0] at hy
      exact List.mem_singleton.mp hy
    rw [hs]
    exact ⟨by show q < sz; omega, by show i ≤ D q; omega, rc_no_mono x3 (Nat.le_refl _) q5⟩
  · obtain ⟨e0, q, q1, q2, q3, q4⟩ := e
    have hs : y = (q, 0, nt) := by
      unfold rc_su at hy
      rw [rc_tg_eq q1 (by omega), e0] at hy
      by_cases hi : i = 0
      · rw [hi] at hy
        exact List.mem_singleton.mp hy
      · have h2 : y ∈ (if i = 0 then [(q, i, nt)] else []) := hy
        rw [if_neg hi] at h2
        exact absurd h2 (List.not_mem_nil)
    rw [hs]
    exact ⟨by show q < sz; omega, Nat.zero_le _, rc_no_mono x3 (Nat.le_refl _) q4⟩
  · obtain ⟨e0, q0, q1, z, z1, z2, z3, z4⟩ := e
    have hs : y = (p + 1, i, rc_nt f pl p nt) := by
      unfold rc_su at hy
      rw [e0] at hy
      exact List.mem_singleton.mp hy
    rw [hs]
    exact ⟨by show p + 1 < sz; omega, by show i ≤ D (p + 1); omega, rc_no_nt x3 hfr z1 z2 z3 z4⟩
/-! following keeps its invariant -/
theorem rc_FI_old {c : Nat → Int32} {D : Nat → Nat} {G : Nat → Nat → Prop} {sz fr pl : Nat} {x : Nat × Nat × (Nat → Int32)} {r : List (Nat × Nat × (Nat → Int32))} {se : List Nat} {nx : List (Nat × (Nat → Int32))} (h : rc_FI c D G sz fr pl (x :: r) se nx) : rc_FI c D G sz fr pl r se nx := by
  obtain ⟨h1, h2, h3, h4, h5⟩ := h
  rw [List.length_cons] at h5
  exact ⟨fun y hy => h1 y (List.mem_cons_of_mem _ hy), h2, h3, h4, by omega⟩
theorem rc_FI_new {c f s : Nat → Int32} {D : Nat → Nat} {G : Nat → Nat → Prop} {sz fr pl : Nat} {x : Nat × Nat × (Nat → Int32)} {r : List (Nat × Nat × (Nat → Int32))} {se : List Nat} {nx : List (Nat × (Nat → Int32))} (w : rc_WF c f s sz D G) (hfr : fr ≤ pl) (h : rc_FI c D G sz fr pl (x :: r) se nx) (hk : rc_key c x.1 x.2.1 ∉ se) :
    rc_FI c D G sz fr pl (rc_su c f s pl x.1 x.2.1 x.2.2 ++ r) (rc_key c x.1 x.2.1 :: se) (if c x.1 = 0 ∨ c x.1 = 4 then nx ++ [(x.1, x.2.2)] else nx) := by
  obtain ⟨h1, h2, h3, h4, h5⟩ := h
  rw [List.length_cons] at h5
  have hx := h1 x (List.mem_cons_self)
  have hD : x.2.1 ≤ 16 := Nat.le_trans hx.2.1 (w.2.2.1 x.1 hx.1)
  refine ⟨fun y hy => ?_, ⟨List.nodup_cons.mpr ⟨hk, h2.1⟩, fun m hm => ?_⟩, ?_, fun y hy => ?_, ?_⟩
  · rcases List.mem_append.mp hy with e | e
    · exact rc_su_ok w hfr hx y e
    · exact h1 y (List.mem_cons_of_mem _ e)
  · rcases List.mem_cons.mp hm with e | e
    · rw [e]
      exact rc_key_lt c hx.1 hD
    · exact h2.2 m e
  · by_cases hc : c x.1 = 0 ∨ c x.1 = 4
    · rw [if_pos hc]
      refine ⟨fun y hy => ?_, ?_⟩
      · rcases List.mem_append.mp hy with e | e
        · exact h3.1 y e
        · rw [List.mem_singleton.mp e]
          exact ⟨hx.1, hc, hx.2.2⟩
      · rw [List.map_append]
        refine List.nodup_append.mpr ⟨h3.2, by simp, fun a ha b hb => ?_⟩
        obtain ⟨y, hy, ey⟩ := List.mem_map.mp ha
        have hb2 : b = x.1 := by simpa using hb
        intro e
        have h6 := h4 y hy
        rw [rc_key_s hc] at hk
        rw [ey, e, hb2] at h6
        exact hk h6
    · rw [if_neg hc]
      exact h3
  · by_cases hc : c x.1 = 0 ∨ c x.1 = 4
    · rw [if_pos hc] at hy
      rcases List.mem_append.mp hy with e | e
      · exact List.mem_cons_of_mem _ (h4 y e)
      · rw [List.mem_singleton.mp e, rc_key_s hc]
        exact List.mem_cons_self
    · rw [if_neg hc] at hy
      exact List.mem_cons_of_mem _ (h4 y hy)
  · have h6 := rc_su_len c f s pl x.1 x.2.1 x.2.2
    rw [List.length_append, List.length_cons]
    omega
theorem rc_FI_nil {c : Nat → Int32} {D : Nat → Nat} {G : Nat → Nat → Prop} {sz fr pl : Nat} {r : List (Nat × Nat × (Nat → Int32))} {se : List Nat} {nx : List (Nat × (Nat → Int32))} (h : rc_FI c D G sz fr pl r se nx) : rc_FI c D G sz fr pl [] se nx :=
  ⟨fun y hy => absurd hy (List.not_mem_nil), h.2.1, h.2.2.1, h.2.2.2.1, Nat.zero_le _⟩
theorem rc_fo_FI {c f s : Nat → Int32} {D : Nat → Nat} {G : Nat → Nat → Prop} {sz fr pl : Nat} (w : rc_WF c f s sz D G) (hfr : fr ≤ pl) : ∀ (k : Nat) (stk : List (Nat × Nat × (Nat → Int32))) (se : List Nat) (nx : List (Nat × (Nat → Int32))), rc_FI c D G sz fr pl stk se nx → rc_FI c D G sz fr pl [] (rc_fo c f s pl k stk se nx).1 (rc_fo c f s pl k stk se nx).2 := by
  intro k
  induction k with
  | zero => intro stk se nx h; exact rc_FI_nil h
  | succ k ih =>
    intro stk se nx h
    cases stk with
    | nil => exact rc_FI_nil h
    | cons x r =>
      unfold rc_fo
      by_cases hk : rc_key c x.1 x.2.1 ∈ se
      · rw [if_pos hk]
        exact ih _ _ _ (rc_FI_old h)
      · rw [if_neg hk]
        exact ih _ _ _ (rc_FI_new w hfr h hk)
/-! a step keeps the threads' invariant -/
theorem rc_TI_nil {c : Nat → Int32} {G : Nat → Nat → Prop} {sz fr pl : Nat} : rc_TI c G sz fr pl [] := ⟨fun y hy => absurd hy (List.not_mem_nil), List.nodup_nil⟩
theorem rc_FI_0 {c : Nat → Int32} {D : Nat → Nat} {G : Nat → Nat → Prop} {sz fr pl : Nat} : rc_FI c D G sz fr pl [] [] [] :=
  ⟨fun y hy => absurd hy (List.not_mem_nil), ⟨List.nodup_nil, fun y hy => absurd hy (List.not_mem_nil)⟩, rc_TI_nil, fun y hy => absurd hy (List.not_mem_nil), Nat.zero_le _⟩
theorem rc_FI_push {c f s : Nat → Int32} {D : Nat → Nat} {G : Nat → Nat → Prop} {sz fr pl : Nat} {x : Nat × (Nat → Int32)} {se : List Nat} {nx : List (Nat × (Nat → Int32))} (w : rc_WF c f s sz D G) (hx : rc_to c G sz fr pl x) (hc : ¬ c x.1 = 4) (h : rc_FI c D G sz fr (pl + 1) [] se nx) : rc_FI c D G sz fr (pl + 1) [(x.1 + 1, 0, x.2)] se nx := by
  obtain ⟨h1, h2, h3, h4, h5⟩ := h
  refine ⟨fun y hy => ?_, h2, h3, h4, by simp⟩
  rw [List.mem_singleton.mp hy]
  obtain ⟨x1, x2, x3⟩ := hx
  rcases w.2.2.2.2 x.1 x1 with e | e | e | e | e | e | e
  · exact absurd e hc
  · have h6 := e.2.1
    exact ⟨by show x.1 + 1 < sz; omega, Nat.zero_le _, rc_no_mono x3 (by omega) e.2.2⟩
  all_goals
    exfalso
    have h7 := e.1
    rcases x2 with q | q
    · rw [q] at h7
      revert h7
      decide
    · exact hc q
theorem rc_th_FI {c f s t : Nat → Int32} {D : Nat → Nat} {G : Nat → Nat → Prop} {sz n fr pl : Nat} {ac : Int32} (w : rc_WF c f s sz D G) (hfr : fr ≤ pl) : ∀ (ths : List (Nat × (Nat → Int32))) (se : List Nat) (nx : List (Nat × (Nat → Int32))), (∀ y, y ∈ ths → rc_to c G sz fr pl y) → rc_FI c D G sz fr (pl + 1) [] se nx →
    rc_FI c D G sz fr (pl + 1) [] (rc_th c f s t n pl ac ths se nx).2.1 (rc_th c f s t n pl ac ths se nx).2.2 ∧ ∀ nt, (rc_th c f s t n pl ac ths se nx).1 = some nt → ∃ p, (p, nt) ∈ ths ∧ c p = 4 := by
  intro ths
  induction ths with
  | nil => intro se nx _ h; exact ⟨h, fun nt e => absurd e (by simp [rc_th])⟩
  | cons x r ih =>
    intro se nx ht h
    have ht' : ∀ y, y ∈ r → rc_to c G sz fr pl y := fun y hy => ht y (List.mem_cons_of_mem _ hy)
    have hx := ht x (List.mem_cons_self)
    have lift : ∀ {o : Option (Nat → Int32)}, (∀ nt, o = some nt → ∃ p, (p, nt) ∈ r ∧ c p = 4) → ∀ nt, o = some nt → ∃ p, (p, nt) ∈ x :: r ∧ c p = 4 := by
      intro o ho nt e
      obtain ⟨p, hp, hc⟩ := ho nt e
      exact ⟨p, List.mem_cons_of_mem _ hp, hc⟩
    unfold rc_th
    by_cases h4 : c x.1 = 4
    · rw [if_pos h4]
      by_cases ha : ac < 0 ∨ ac = nI pl
      · rw [if_pos ha]
        refine ⟨h, fun nt e => ⟨x.1, ?_, h4⟩⟩
        have e2 : x.2 = nt := Option.some.inj e
        rw [← e2]
        exact List.mem_cons_self
      · rw [if_neg ha]
        exact ⟨(ih se nx ht' h).1, lift (ih se nx ht' h).2⟩
    · rw [if_neg h4]
      by_cases hm : pl < n ∧ (f x.1 = 3 ∨ f x.1 = t pl)
      · rw [if_pos hm]
        have h6 := rc_fo_FI w (show fr ≤ pl + 1 by omega) 1300 _ _ _ (rc_FI_push w hx h4 h)
        exact ⟨(ih _ _ ht' h6).1, lift (ih _ _ ht' h6).2⟩
      · rw [if_neg hm]
        exact ⟨(ih se nx ht' h).1, lift (ih se nx ht' h).2⟩
/-! the search's answer -/
def rc_An (fr n : Nat) (R : Option (Nat × (Nat → Int32))) : Prop := ∀ e nt, R = some (e, nt) → fr ≤ e ∧ e ≤ n ∧ ∀ g, g < 3 → nt g = -4 ∨ ∃ b d, fr ≤ b ∧ b ≤ d ∧ d ≤ e ∧ nt g = nI (16 * b + d)
theorem rc_up_An {c f s t : Nat → Int32} {D : Nat → Nat} {G : Nat → Nat → Prop} {sz n fr pl : Nat} {ac : Int32} {ths : List (Nat × (Nat → Int32))} {R : Option (Nat × (Nat → Int32))} (w : rc_WF c f s sz D G) (hfr : fr ≤ pl) (hn : pl ≤ n) (ht : ∀ y, y ∈ ths → rc_to c G sz fr pl y) (hR : rc_An fr n R) : rc_An fr n (rc_up (rc_th c f s t n pl ac ths [] []).1 pl R) := by
  intro e nt he
  have h1 := (rc_th_FI (t := t) (n := n) (ac := ac) w hfr ths [] [] ht rc_FI_0).2
  generalize (rc_th c f s t n pl ac ths [] []).1 = o at he h1
  cases o with
  | none => exact hR e nt he
  | some nt' =>
    have h2 : (pl, nt') = (e, nt) := Option.some.inj he
    obtain ⟨e1, e2⟩ := Prod.mk.inj h2
    obtain ⟨p, hp, _⟩ := h1 nt' rfl
    have h3 := (ht _ hp).2.2.1
    rw [← e1, ← e2]
    exact ⟨hfr, hn, h3⟩
theorem rc_se_An {c f s t : Nat → Int32} {D : Nat → Nat} {G : Nat → Nat → Prop} {sz n fr : Nat} {ac : Int32} (w : rc_WF c f s sz D G) : ∀ (k pl : Nat) (ths : List (Nat × (Nat → Int32))) (R : Option (Nat × (Nat → Int32))), fr ≤ pl → pl + k ≤ n + 1 → (∀ y, y ∈ ths → rc_to c G sz fr pl y) → rc_An fr n R → rc_An fr n (rc_se c f s t n ac k pl ths R) := by
  intro k
  induction k with
  | zero => intro pl ths R _ _ _ h; exact h
  | succ k ih =>
    intro pl ths R hfr hk ht hR
    unfold rc_se
    by_cases e : ths = []
    · rw [if_pos e]
      exact hR
    · rw [if_neg e]
      exact ih _ _ _ (by omega) (by omega) (rc_th_FI w hfr ths [] [] ht rc_FI_0).1.2.2.1.1 (rc_up_An w hfr (by omega) ht hR)
theorem rc_FI_st {c f s : Nat → Int32} {D : Nat → Nat} {G : Nat → Nat → Prop} {sz : Nat} (fr pl : Nat) (w : rc_WF c f s sz D G) : rc_FI c D G sz fr pl [(0, 0, fun _ => -4)] [] [] := by
  refine ⟨fun y hy => ?_, rc_FI_0 (c := c) (D := D) (G := G) (fr := fr) (pl := pl) |>.2.1, rc_TI_nil, fun y hy => absurd hy (List.not_mem_nil), by simp⟩
  rw [List.mem_singleton.mp hy]
  have h1 := w.1
  exact ⟨by show 0 < sz; omega, Nat.zero_le _, fun g _ => Or.inl rfl, fun g _ h => absurd h (w.2.2.2.1 g)⟩
theorem rc_sr_An {c f s t : Nat → Int32} {D : Nat → Nat} {G : Nat → Nat → Prop} {sz n fr : Nat} {ac : Int32} (w : rc_WF c f s sz D G) (h : fr ≤ n + 1) : rc_An fr n (rc_sr c f s t n fr ac) :=
  rc_se_An w _ _ _ _ (Nat.le_refl _) (by omega) (rc_fo_FI w (Nat.le_refl fr) 1300 _ _ _ (rc_FI_st fr fr w)).2.2.1.1 (fun e nt he => absurd he (by simp))
theorem rc_fi_An {c f s t : Nat → Int32} {D : Nat → Nat} {G : Nat → Nat → Prop} {sz n : Nat} (w : rc_WF c f s sz D G) : ∀ (k f0 i e : Nat) (nt : Nat → Int32), f0 + k ≤ n + 1 → rc_fi c f s t n k f0 = some (i, e, nt) → f0 ≤ i ∧ i ≤ n ∧ rc_sr c f s t n i (-1) = some (e, nt) := by
  intro k
  induction k with
  | zero => intro f0 i e nt _ h; exact absurd h (by simp [rc_fi])
  | succ k ih =>
    intro f0 i e nt hk h
    unfold rc_fi at h
    generalize hR : rc_sr c f s t n f0 (-1) = R at h
    cases R with
    | none =>
      have h2 := ih (f0 + 1) i e nt (by omega) h
      exact ⟨by omega, h2.2.1, h2.2.2⟩
    | some v =>
      obtain ⟨e', nt'⟩ := v
      have h2 : (f0, e', nt') = (i, e, nt) := Option.some.inj h
      obtain ⟨e1, e2⟩ := Prod.mk.inj h2
      obtain ⟨e3, e4⟩ := Prod.mk.inj e2
      rw [← e1, ← e3, ← e4]
      exact ⟨Nat.le_refl _, by omega, hR⟩
end
section
/-! a search that ends at j also ends there if only j is accepted -/
/-- closed under following -/
def rc_cl (c f s : Nat → Int32) (D : Nat → Nat) (sz : Nat) (C : Nat → Prop) : Prop := ∀ p i, p < sz → i ≤ D p → C (rc_key c p i) → ∀ pl nt x, x ∈ rc_su c f s pl p i nt → C (rc_key c x.1 x.2.1)
/-- closed but for what waits -/
def rc_sc (c f s : Nat → Int32) (D : Nat → Nat) (sz : Nat) (stk : List (Nat × Nat × (Nat → Int32))) (se : List Nat) : Prop := ∀ p i, p < sz → i ≤ D p → rc_key c p i ∈ se → ∀ pl nt x, x ∈ rc_su c f s pl p i nt → rc_key c x.1 x.2.1 ∈ se ∨ ∃ y, y ∈ stk ∧ rc_key c y.1 y.2.1 = rc_key c x.1 x.2.1
/-- every stop that is marked is a next thread -/
def rc_st (c : Nat → Int32) (se : List Nat) (nx : List (Nat × (Nat → Int32))) : Prop := ∀ p, (c p = 0 ∨ c p = 4) → p * 17 ∈ se → p ∈ nx.map Prod.fst
theorem rc_fo_in {c f s : Nat → Int32} {D : Nat → Nat} {G : Nat → Nat → Prop} {sz fr pl : Nat} {C : Nat → Prop} (w : rc_WF c f s sz D G) (hfr : fr ≤ pl) (hC : rc_cl c f s D sz C) : ∀ (k : Nat) (stk : List (Nat × Nat × (Nat → Int32))) (se : List Nat) (nx : List (Nat × (Nat → Int32))), rc_FI c D G sz fr pl stk se nx → (∀ x, x ∈ stk → C (rc_key c x.1 x.2.1)) → (∀ m, m ∈ se → C m) → ∀ m, m ∈ (rc_fo c f s pl k stk se nx).1 → C m := by
  intro k
  induction k with
  | zero => intro stk se nx _ _ h; exact h
  | succ k ih =>
    intro stk se nx hF hs he
    cases stk with
    | nil => exact he
    | cons x r =>
      unfold rc_fo
      have hr : ∀ y, y ∈ r → C (rc_key c y.1 y.2.1) := fun y hy => hs y (List.mem_cons_of_mem _ hy)
      by_cases hk : rc_key c x.1 x.2.1 ∈ se
      · rw [if_pos hk]
        exact ih _ _ _ (rc_FI_old hF) hr he
      · rw [if_neg hk]
        have hx := hF.1 x (List.mem_cons_self)
        have hkx := hs x (List.mem_cons_self)
        refine ih _ _ _ (rc_FI_new w hfr hF hk) (fun y hy => ?_) (fun m hm => ?_)
        · rcases List.mem_append.mp hy with e | e
          · exact hC x.1 x.2.1 hx.1 hx.2.1 hkx pl x.2.2 y e
          · exact hr y e
        · rcases List.mem_cons.mp hm with e | e
          · rw [e]
            exact hkx
          · exact he m e
theorem rc_fo_cl {c f s : Nat → Int32} {D : Nat → Nat} {G : Nat → Nat → Prop} {sz fr pl : Nat} (w : rc_WF c f s sz D G) (hfr : fr ≤ pl) : ∀ (k : Nat) (stk : List (Nat × Nat × (Nat → Int32))) (se : List Nat) (nx : List (Nat × (Nat → Int32))), rc_FI c D G sz fr pl stk se nx → rc_sc c f s D sz stk se → rc_st c se nx → 2 * (17 * sz - se.length) + stk.length ≤ k →
    rc_sc c f s D sz [] (rc_fo c f s pl k stk se nx).1 ∧ rc_st c (rc_fo c f s pl k stk se nx).1 (rc_fo c f s pl k stk se nx).2 ∧ (∀ m, m ∈ se → m ∈ (rc_fo c f s pl k stk se nx).1) ∧ ∀ x, x ∈ stk → rc_key c x.1 x.2.1 ∈ (rc_fo c f s pl k stk se nx).1 := by
  intro k
  induction k with
  | zero =>
    intro stk se nx _ hs ht hk
    have h0 : stk = [] := List.length_eq_zero_iff.mp (by omega)
    subst h0
    exact ⟨hs, ht, fun m hm => hm, fun x hx => absurd hx (List.not_mem_nil)⟩
  | succ k ih =>
    intro stk se nx hF hs ht hk
    cases stk with
    | nil => exact ⟨hs, ht, fun m hm => hm, fun x hx => absurd hx (List.not_mem_nil)⟩
    | cons x r =>
      unfold rc_fo
      rw [List.length_cons] at hk
      by_cases hm : rc_key c x.1 x.2.1 ∈ se
      · rw [if_pos hm]
        have hs' : rc_sc c f s D sz r se := by
          intro p i hp hi hpi pl' nt' y hy
          rcases hs p i hp hi hpi pl' nt' y hy with e | ⟨v, hv, ev⟩
          · exact Or.inl e
          · rcases List.mem_cons.mp hv with e | e
            · rw [e] at ev
              rw [← ev]
              exact Or.inl hm
            · exact Or.inr ⟨v, e, ev⟩
        obtain ⟨i1, i2, i3, i4⟩ := ih r se nx (rc_FI_old hF) hs' ht (by omega)
        refine ⟨i1, i2, i3, fun y hy => ?_⟩
        rcases List.mem_cons.mp hy with e | e
        · rw [e]
          exact i3 _ hm
        · exact i4 y e
      · rw [if_neg hm]
        have hF' := rc_FI_new w hfr hF hm
        have hx := hF.1 x (List.mem_cons_self)
        have hD : x.2.1 ≤ 16 := Nat.le_trans hx.2.1 (w.2.2.1 x.1 hx.1)
        have hl := rc_SI_len hF'.2.1
        rw [List.length_cons] at hl
        have hu := rc_su_len c f s pl x.1 x.2.1 x.2.2
        have hs' : rc_sc c f s D sz (rc_su c f s pl x.1 x.2.1 x.2.2 ++ r) (rc_key c x.1 x.2.1 :: se) := by
          intro p i hp hi hpi pl' nt' y hy
          rcases List.mem_cons.mp hpi with e | e
          · have hi16 : i ≤ 16 := Nat.le_trans hi (w.2.2.1 p hp)
            have hpx : p = x.1 := rc_key_p hi16 hD e
            by_cases hc : c p = 0 ∨ c p = 4
            · rw [rc_su_s hc] at hy
              exact absurd hy (List.not_mem_nil)
            · have hix : i = x.2.1 := by
                rw [← hpx, rc_key_n hc, rc_key_n hc] at e
                omega
              rw [hpx, hix] at hy
              obtain ⟨v, hv, e1, e2⟩ := rc_su_ind hy pl x.2.2
              exact Or.inr ⟨v, List.mem_append.mpr (Or.inl hv), by rw [e1, e2]⟩
          · rcases hs p i hp hi e pl' nt' y hy with e | ⟨v, hv, ev⟩
            · exact Or.inl (List.mem_cons_of_mem _ e)
            · rcases List.mem_cons.mp hv with e | e
              · rw [e] at ev
                rw [← ev]
                exact Or.inl (List.mem_cons_self)
              · exact Or.inr ⟨v, List.mem_append.mpr (Or.inr e), ev⟩
        have ht' : rc_st c (rc_key c x.1 x.2.1 :: se) (if c x.1 = 0 ∨ c x.1 = 4 then nx ++ [(x.1, x.2.2)] else nx) := by
          intro p hp hpe
          rcases List.mem_cons.mp hpe with e | e
          · have hpx : p = x.1 := rc_key_p (c := c) (i := 0) (by omega) hD (by rw [rc_key_s hp]; exact e)
            rw [hpx] at hp
            rw [if_pos hp, List.map_append, hpx]
            exact List.mem_append.mpr (Or.inr (by simp))
          · by_cases hc : c x.1 = 0 ∨ c x.1 = 4
            · rw [if_pos hc, List.map_append]
              exact List.mem_append.mpr (Or.inl (ht p hp e))
            · rw [if_neg hc]
              exact ht p hp e
        obtain ⟨i1, i2, i3, i4⟩ := ih _ _ _ hF' hs' ht' (by rw [List.length_cons, List.length_append]; omega)
        refine ⟨i1, i2, fun m hm => i3 m (List.mem_cons_of_mem _ hm), fun y hy => ?_⟩
        rcases List.mem_cons.mp hy with e | e
        · rw [e]
          exact i3 _ (List.mem_cons_self)
        · exact i4 y (List.mem_append.mpr (Or.inr e))
theorem rc_sc_cl {c f s : Nat → Int32} {D : Nat → Nat} {sz : Nat} {se : List Nat} (h : rc_sc c f s D sz [] se) : rc_cl c f s D sz (fun m => m ∈ se) := by
  intro p i hp hi hk pl nt x hx
  rcases h p i hp hi hk pl nt x hx with e | ⟨y, hy, _⟩
  · exact e
  · exact absurd hy (List.not_mem_nil)
/-- the threads that read -/
def rc_rd (c f t : Nat → Int32) (n pl p : Nat) : Prop := ¬ c p = 4 ∧ pl < n ∧ (f p = 3 ∨ f p = t pl)
theorem rc_th_in {c f s t : Nat → Int32} {D : Nat → Nat} {G : Nat → Nat → Prop} {sz n fr pl : Nat} {ac : Int32} {C : Nat → Prop} (w : rc_WF c f s sz D G) (hfr : fr ≤ pl) (hC : rc_cl c f s D sz C) : ∀ (ths : List (Nat × (Nat → Int32))) (se : List Nat) (nx : List (Nat × (Nat → Int32))), (∀ y, y ∈ ths → rc_to c G sz fr pl y) → rc_FI c D G sz fr (pl + 1) [] se nx → (∀ y, y ∈ ths → rc_rd c f t n pl y.1 → C (rc_key c (y.1 + 1) 0)) → (∀ m, m ∈ se → C m) → ∀ m, m ∈ (rc_th c f s t n pl ac ths se nx).2.1 → C m := by
  intro ths
  induction ths with
  | nil => intro se nx _ _ _ h; exact h
  | cons x r ih =>
    intro se nx ht hF hy he
    have ht' : ∀ y, y ∈ r → rc_to c G sz fr pl y := fun y hy => ht y (List.mem_cons_of_mem _ hy)
    have hy' : ∀ y, y ∈ r → rc_rd c f t n pl y.1 → C (rc_key c (y.1 + 1) 0) := fun y h => hy y (List.mem_cons_of_mem _ h)
    unfold rc_th
    by_cases h4 : c x.1 = 4
    · rw [if_pos h4]
      by_cases ha : ac < 0 ∨ ac = nI pl
      · rw [if_pos ha]
        exact he
      · rw [if_neg ha]
        exact ih se nx ht' hF hy' he
    · rw [if_neg h4]
      by_cases hm : pl < n ∧ (f x.1 = 3 ∨ f x.1 = t pl)
      · rw [if_pos hm]
        have hP := rc_FI_push w (ht x (List.mem_cons_self)) h4 hF
        refine ih _ _ ht' (rc_fo_FI w (show fr ≤ pl + 1 by omega) 1300 _ _ _ hP) hy' (rc_fo_in w (show fr ≤ pl + 1 by omega) hC 1300 _ _ _ hP (fun v hv => ?_) he)
        rw [List.mem_singleton.mp hv]
        exact hy x (List.mem_cons_self) ⟨h4, hm⟩
      · rw [if_neg hm]
        exact ih se nx ht' hF hy' he
theorem rc_th_cl {c f s t : Nat → Int32} {D : Nat → Nat} {G : Nat → Nat → Prop} {sz n fr pl : Nat} {ac : Int32} (w : rc_WF c f s sz D G) (hfr : fr ≤ pl) (ha : ¬ (ac < 0 ∨ ac = nI pl)) : ∀ (ths : List (Nat × (Nat → Int32))) (se : List Nat) (nx : List (Nat × (Nat → Int32))), (∀ y, y ∈ ths → rc_to c G sz fr pl y) → rc_FI c D G sz fr (pl + 1) [] se nx → rc_sc c f s D sz [] se → rc_st c se nx →
    rc_sc c f s D sz [] (rc_th c f s t n pl ac ths se nx).2.1 ∧ rc_st c (rc_th c f s t n pl ac ths se nx).2.1 (rc_th c f s t n pl ac ths se nx).2.2 ∧ (∀ m, m ∈ se → m ∈ (rc_th c f s t n pl ac ths se nx).2.1) ∧ ∀ y, y ∈ ths → rc_rd c f t n pl y.1 → rc_key c (y.1 + 1) 0 ∈ (rc_th c f s t n pl ac ths se nx).2.1 := by
  intro ths
  induction ths with
  | nil => intro se nx _ _ hs hst; exact ⟨hs, hst, fun m h => h, fun y hy => absurd hy (List.not_mem_nil)⟩
  | cons x r ih =>
    intro se nx ht hF hs hst
    have ht' : ∀ y, y ∈ r → rc_to c G sz fr pl y := fun y hy => ht y (List.mem_cons_of_mem _ hy)
    unfold rc_th
    by_cases h4 : c x.1 = 4
    · rw [if_pos h4, if_neg ha]
      obtain ⟨i1, i2, i3, i4⟩ := ih se nx ht' hF hs hst
      refine ⟨i1, i2, i3, fun y hy hr => ?_⟩
      rcases List.mem_cons.mp hy with e | e
      · rw [e] at hr
        exact absurd h4 hr.1
      · exact i4 y e hr
    · rw [if_neg h4]
      by_cases hm : pl < n ∧ (f x.1 = 3 ∨ f x.1 = t pl)
      · rw [if_pos hm]
        have hP := rc_FI_push w (ht x (List.mem_cons_self)) h4 hF
        have hs1 : rc_sc c f s D sz [(x.1 + 1, 0, x.2)] se := by
          intro p i hp hi hk pl' nt' v hv
          rcases hs p i hp hi hk pl' nt' v hv with e | ⟨u, hu, _⟩
          · exact Or.inl e
          · exact absurd hu (List.not_mem_nil)
        have w2 := w.2.1
        obtain ⟨j1, j2, j3, j4⟩ := rc_fo_cl w (show fr ≤ pl + 1 by omega) 1300 _ _ _ hP hs1 hst (by rw [List.length_singleton]; omega)
        obtain ⟨i1, i2, i3, i4⟩ := ih _ _ ht' (rc_fo_FI w (show fr ≤ pl + 1 by omega) 1300 _ _ _ hP) j1 j2
        refine ⟨i1, i2, fun m hm => i3 m (j3 m hm), fun y hy hr => ?_⟩
        rcases List.mem_cons.mp hy with e | e
        · rw [e]
          exact i3 _ (j4 _ (List.mem_singleton.mpr rfl))
        · exact i4 y e hr
      · rw [if_neg hm]
        obtain ⟨i1, i2, i3, i4⟩ := ih se nx ht' hF hs hst
        refine ⟨i1, i2, i3, fun y hy hr => ?_⟩
        rcases List.mem_cons.mp hy with e | e
        · rw [e] at hr
          exact absurd hr.2 hm
        · exact i4 y e hr
/-- the instructions of threads A lie among those of B -/
def rc_sub (A B : List (Nat × (Nat → Int32))) : Prop := ∀ p, p ∈ A.map Prod.fst → p ∈ B.map Prod.fst
theorem rc_th_mono {c f s t : Nat → Int32} {D : Nat → Nat} {G : Nat → Nat → Prop} {sz n fr pl : Nat} {ac bc : Int32} {A B : List (Nat × (Nat → Int32))} (w : rc_WF c f s sz D G) (hfr : fr ≤ pl) (ha : ¬ (bc < 0 ∨ bc = nI pl)) (hA : ∀ y, y ∈ A → rc_to c G sz fr pl y) (hB : ∀ y, y ∈ B → rc_to c G sz fr pl y) (h : rc_sub A B) :
    rc_sub (rc_th c f s t n pl ac A [] []).2.2 (rc_th c f s t n pl bc B [] []).2.2 := by
  have h0 : rc_sc c f s D sz [] [] := fun p i _ _ hk => absurd hk (List.not_mem_nil)
  have h1 : rc_st c [] [] := fun p _ hk => absurd hk (List.not_mem_nil)
  obtain ⟨i1, i2, _, i4⟩ := rc_th_cl (t := t) (n := n) w hfr ha B [] [] hB rc_FI_0 h0 h1
  have hin := rc_th_in (t := t) (n := n) (ac := ac) w hfr (rc_sc_cl i1) A [] [] hA rc_FI_0 (fun y hy hr => by
    obtain ⟨v, hv, ev⟩ := List.mem_map.mp (h y.1 (List.mem_map.mpr ⟨y, hy, rfl⟩))
    rw [← ev] at hr ⊢
    exact i4 v hv hr) (fun m hm => absurd hm (List.not_mem_nil))
  have hF := (rc_th_FI (t := t) (n := n) (ac := ac) w hfr A [] [] hA rc_FI_0).1
  intro p hp
  obtain ⟨y, hy, ey⟩ := List.mem_map.mp hp
  have h2 := hF.2.2.1.1 y hy
  have h3 := hin _ (hF.2.2.2.1 y hy)
  rw [← ey]
  exact i2 y.1 h2.2.1 h3
/-- a thread that is done is taken where it may end -/
theorem rc_th_some {c f s t : Nat → Int32} {n pl : Nat} {ac : Int32} (ha : ac < 0 ∨ ac = nI pl) : ∀ (ths : List (Nat × (Nat → Int32))) (se : List Nat) (nx : List (Nat × (Nat → Int32))) (p : Nat), p ∈ ths.map Prod.fst → c p = 4 → ∃ nt, (rc_th c f s t n pl ac ths se nx).1 = some nt := by
  intro ths
  induction ths with
  | nil => intro se nx p hp; exact absurd hp (List.not_mem_nil)
  | cons x r ih =>
    intro se nx p hp hc
    unfold rc_th
    by_cases h4 : c x.1 = 4
    · rw [if_pos h4, if_pos ha]
      exact ⟨_, rfl⟩
    · have hp' : p ∈ r.map Prod.fst := by
        rw [List.map_cons] at hp
        rcases List.mem_cons.mp hp with e | e
        · rw [e] at hc
          exact absurd hc h4
        · exact e
      rw [if_neg h4]
      by_cases hm : pl < n ∧ (f x.1 = 3 ∨ f x.1 = t pl)
      · rw [if_pos hm]
        exact ih _ _ p hp' hc
      · rw [if_neg hm]
        exact ih _ _ p hp' hc
theorem rc_th_none {c f s t : Nat → Int32} {n pl : Nat} {ac : Int32} (ha : ¬ (ac < 0 ∨ ac = nI pl)) : ∀ (ths : List (Nat × (Nat → Int32))) (se : List Nat) (nx : List (Nat × (Nat → Int32))), (rc_th c f s t n pl ac ths se nx).1 = none := by
  intro ths
  induction ths with
  | nil => intro se nx; rfl
  | cons x r ih =>
    intro se nx
    unfold rc_th
    by_cases h4 : c x.1 = 4
    · rw [if_pos h4, if_neg ha]
      exact ih _ _
    · rw [if_neg h4]
      by_cases hm : pl < n ∧ (f x.1 = 3 ∨ f x.1 = t pl)
      · rw [if_pos hm]
        exact ih _ _
      · rw [if_neg hm]
        exact ih _ _
theorem rc_ne {j pl : Nat} (hj : j < 2 ^ 31) (hp : pl < 2 ^ 31) (h : j ≠ pl) : ¬ (nI j < 0 ∨ nI j = nI pl) := by
  rintro (e | e)
  · exact nI_pos hj e
  · exact h ((nI_eq hj hp).mp e)
/-- behind its only end a search changes nothing -/
theorem rc_se_past {c f s t : Nat → Int32} {n j : Nat} (hn : n < 2 ^ 30) : ∀ (k pl : Nat) (ths : List (Nat × (Nat → Int32))) (R : Option (Nat × (Nat → Int32))), j < pl → pl + k ≤ n + 1 → rc_se c f s t n (nI j) k pl ths R = R := by
  intro k
  induction k with
  | zero => intro pl ths R _ _; rfl
  | succ k ih =>
    intro pl ths R hj hk
    unfold rc_se
    by_cases e : ths = []
    · rw [if_pos e]
    · rw [if_neg e, ih _ _ _ (by omega) (by omega), rc_th_none (rc_ne (by omega) (by omega) (by omega))]
      rfl
/-- what stands at the end was there, or was found from here on -/
theorem rc_se_ge {c f s t : Nat → Int32} {n : Nat} {ac : Int32} : ∀ (k pl : Nat) (ths : List (Nat × (Nat → Int32))) (R : Option (Nat × (Nat → Int32))) (j : Nat) (nt : Nat → Int32), rc_se c f s t n ac k pl ths R = some (j, nt) → R = some (j, nt) ∨ pl ≤ j := by
  intro k
  induction k with
  | zero => intro pl ths R j nt h; exact Or.inl h
  | succ k ih =>
    intro pl ths R j nt h
    unfold rc_se at h
    by_cases e : ths = []
    · rw [if_pos e] at h
      exact Or.inl h
    · rw [if_neg e] at h
      rcases ih _ _ _ _ _ h with q | q
      · generalize (rc_th c f s t n pl ac ths [] []).1 = o at q
        cases o with
        | none => exact Or.inl q
        | some nt' =>
          have h2 : (pl, nt') = (j, nt) := Option.some.inj q
          have h3 := (Prod.mk.inj h2).1
          exact Or.inr (by omega)
      · exact Or.inr (by omega)
theorem rc_se_mono {c f s t : Nat → Int32} {D : Nat → Nat} {G : Nat → Nat → Prop} {sz n fr j : Nat} {nt : Nat → Int32} (w : rc_WF c f s sz D G) (hn : n < 2 ^ 30) (hjn : j ≤ n) : ∀ (k pl : Nat) (A B : List (Nat × (Nat → Int32))) (R S : Option (Nat × (Nat → Int32))), fr ≤ pl → pl + k ≤ n + 1 → (∀ y, y ∈ A → rc_to c G sz fr pl y) → (∀ y, y ∈ B → rc_to c G sz fr pl y) → rc_sub A B → pl ≤ j → rc_se c f s t n (-1) k pl A R = some (j, nt) →
    R = some (j, nt) ∨ ∃ nt', rc_se c f s t n (nI j) k pl B S = some (j, nt') := by
  intro k
  induction k with
  | zero => intro pl A B R S _ _ _ _ _ _ h; exact Or.inl h
  | succ k ih =>
    intro pl A B R S hfr hk hA hB hs hj h
    unfold rc_se at h
    by_cases e : A = []
    · rw [if_pos e] at h
      exact Or.inl h
    · rw [if_neg e] at h
      have hBn : ¬ B = [] := by
        intro q
        cases A with
        | nil => exact e rfl
        | cons x r =>
          have h2 := hs x.1 (by simp)
          rw [q] at h2
          exact absurd h2 (List.not_mem_nil)
      have hAF := (rc_th_FI (t := t) (n := n) (ac := -1) w hfr A [] [] hA rc_FI_0)
      have hBF := (rc_th_FI (t := t) (n := n) (ac := nI j) w hfr B [] [] hB rc_FI_0).1
      have hR : ∀ v, rc_up (rc_th c f s t n pl (-1) A [] []).1 pl R = some v → R = some v ∨ (v.1 = pl ∧ ∃ nt0, (rc_th c f s t n pl (-1) A [] []).1 = some nt0) := by
        intro v hv
        generalize (rc_th c f s t n pl (-1) A [] []).1 = o at hv
        cases o with
        | none => exact Or.inl hv
        | some nt0 =>
          have h2 : (pl, nt0) = v := Option.some.inj hv
          rw [← h2]
          exact Or.inr ⟨rfl, nt0, rfl⟩
      unfold rc_se
      rw [if_neg hBn]
      by_cases hje : j = pl
      · rcases rc_se_ge _ _ _ _ _ _ h with q | q
        · rcases hR _ q with r | ⟨_, nt0, h0⟩
          · exact Or.inl r
          · obtain ⟨p, hp, hc⟩ := hAF.2 nt0 h0
            obtain ⟨nt1, h1⟩ := rc_th_some (c := c) (f := f) (s := s) (t := t) (n := n) (pl := pl) (ac := nI j) (Or.inr (by rw [hje])) B [] [] p (hs p (List.mem_map.mpr ⟨_, hp, rfl⟩)) hc
            refine Or.inr ⟨nt1, ?_⟩
            rw [rc_se_past hn _ _ _ _ (by omega) (by omega), h1, hje]
            rfl
        · exact absurd q (by omega)
      · have hne := rc_ne (j := j) (pl := pl) (by omega) (by omega) hje
        rcases ih (pl + 1) _ _ _ (rc_up (rc_th c f s t n pl (nI j) B [] []).1 pl S) (by omega) (by omega) hAF.1.2.2.1.1 hBF.2.2.1.1 (rc_th_mono w hfr hne hA hB hs) (by omega) h with q | q
        · rcases hR _ q with r | ⟨h1, _⟩
          · exact Or.inl r
          · exact absurd h1 hje
        · exact Or.inr q
theorem rc_sr_mono {c f s t : Nat → Int32} {D : Nat → Nat} {G : Nat → Nat → Prop} {sz n fr j : Nat} {nt : Nat → Int32} (w : rc_WF c f s sz D G) (hn : n < 2 ^ 30) (hf : fr ≤ n) (h : rc_sr c f s t n fr (-1) = some (j, nt)) : ∃ nt', rc_sr c f s t n fr (nI j) = some (j, nt') := by
  have hF := rc_fo_FI w (Nat.le_refl fr) 1300 _ _ _ (rc_FI_st fr fr w)
  have hA := rc_sr_An (t := t) (ac := -1) w (show fr ≤ n + 1 by omega) j nt h
  rcases rc_se_mono (t := t) (nt := nt) w hn hA.2.1 (n + 1 - fr) fr _ _ none none (Nat.le_refl _) (by omega) hF.2.2.1.1 hF.2.2.1.1 (fun p hp => hp) hA.1 h with q | q
  · exact absurd q (by simp)
  · exact q
end
section
/-! walks: push, goOn, follow -/
def rc_sR (a15 a16 a17 : Nat → Int32) : List (Nat × Nat × (Nat → Int32)) → Prop
  | [] => True
  | x :: r => a15 r.length = nI x.1 ∧ a16 r.length = nI x.2.1 ∧ (∀ k, k < 6 → a17 (r.length * 6 + k) = x.2.2 k) ∧ rc_sR a15 a16 a17 r
def rc_tR (a b : Nat → Int32) : Nat → List (Nat × (Nat → Int32)) → Prop
  | _, [] => True
  | t, y :: r => a t = nI y.1 ∧ (∀ k, k < 6 → b (t * 6 + k) = y.2 k) ∧ rc_tR a b (t + 1) r
def rc_mR (a14 : Nat → Int32) (se : List Nat) : Prop := ∀ m, m < 1088 → (a14 m = 0 ↔ m ∉ se)
theorem rc_sR_congr {a15 a16 a17 b15 b16 b17 : Nat → Int32} : ∀ (stk : List (Nat × Nat × (Nat → Int32))), (∀ j, j < stk.length → b15 j = a15 j) → (∀ j, j < stk.length → b16 j = a16 j) → (∀ j, j < stk.length * 6 → b17 j = a17 j) → rc_sR a15 a16 a17 stk → rc_sR b15 b16 b17 stk := by
  intro stk
  induction stk with
  | nil => intro _ _ _ h; exact h
  | cons x r ih =>
    intro h1 h2 h3 h
    rw [List.length_cons] at h1 h2 h3
    obtain ⟨i1, i2, i3, i4⟩ := h
    refine ⟨?_, ?_, fun k hk => ?_, ih (fun j hj => h1 j (by omega)) (fun j hj => h2 j (by omega)) (fun j hj => h3 j (by omega)) i4⟩
    · rw [h1 _ (by omega)]; exact i1
    · rw [h2 _ (by omega)]; exact i2
    · rw [h3 _ (by omega)]; exact i3 k hk
theorem rc_tR_congr {a b a' b' : Nat → Int32} : ∀ (l : List (Nat × (Nat → Int32))) (t : Nat), (∀ j, j < t + l.length → a' j = a j) → (∀ j, j < (t + l.length) * 6 → b' j = b j) → rc_tR a b t l → rc_tR a' b' t l := by
  intro l
  induction l with
  | nil => intro t _ _ h; exact h
  | cons y r ih =>
    intro t h1 h2 h
    rw [List.length_cons] at h1 h2
    obtain ⟨i1, i2, i3⟩ := h
    refine ⟨?_, fun k hk => ?_, ih (t + 1) (fun j hj => h1 j (by omega)) (fun j hj => h2 j (by omega)) i3⟩
    · rw [h1 _ (by omega)]; exact i1
    · rw [h2 _ (by omega)]; exact i2 k hk
theorem rc_tR_app {a b : Nat → Int32} {p : Nat} {nt : Nat → Int32} : ∀ (l : List (Nat × (Nat → Int32))) (t : Nat), rc_tR a b t l → a (t + l.length) = nI p → (∀ k, k < 6 → b ((t + l.length) * 6 + k) = nt k) → rc_tR a b t (l ++ [(p, nt)]) := by
  intro l
  induction l with
  | nil => intro t _ h1 h2; exact ⟨h1, h2, trivial⟩
  | cons y r ih =>
    intro t h h1 h2
    rw [List.length_cons] at h1 h2
    obtain ⟨i1, i2, i3⟩ := h
    refine ⟨i1, i2, ih (t + 1) i3 ?_ (fun k hk => ?_)⟩
    · rw [show t + 1 + r.length = t + (r.length + 1) by omega]; exact h1
    · rw [show t + 1 + r.length = t + (r.length + 1) by omega]; exact h2 k hk
theorem rc_fill {s a x : Nat → Int32} {o i K : Nat} {v : Int32} (hK : K = o + i) (hv : v = x i) (h1 : ∀ j, j < o → s j = a j) (h2 : ∀ k, k < i → s (o + k) = x k) : (∀ j, j < o → upd s K v j = a j) ∧ ∀ k, k < i + 1 → upd s K v (o + k) = x k := by
  subst hK
  refine ⟨fun j hj => ?_, fun k hk => ?_⟩
  · rw [pk_un (by omega)]; exact h1 j hj
  · by_cases e : k = i
    · rw [e, pk_us]; exact hv
    · rw [pk_un (by omega)]; exact h2 k (by omega)
theorem rc_ix (w i : Nat) : nI w * 6 + nI i = nI (w * 6 + i) := by
  rw [show (6 : Int32) = nI 6 from rfl, pk_mul, nI_add]
theorem rc_w22 {post : St1 → Prop} {h m l z n ct nc fe : Int32} {a1 a2 a3 a4 a5 a6 a7 a8 a9 a10 a11 a12 a13 a14 a15 a16 a17 a18 a19 : Nat → Int32} {w : Nat} (hw : w < 640) (H : ∀ b : Nat → Int32, (∀ j, j < w * 6 → b j = a17 j) → (∀ k, k < 6 → b (w * 6 + k) = a18 k) → post (h, m, l, z, n, ct, nc, nI (w + 1), fe, a1, a2, a3, a4, a5, a6, a7, a8, a9, a10, a11, a12, a13, a14, a15, a16, b, a18, a19)) : ∃ fu, wX_push_22 post h m l z n ct nc (nI w) fe fu 0 a1 a2 a3 a4 a5 a6 a7 a8 a9 a10 a11 a12 a13 a14 a15 a16 a17 a18 a19 :=
  pk_loop (fun n0 i s => wX_push_22 post h m l z n ct nc (nI w) fe n0 (nI i) a1 a2 a3 a4 a5 a6 a7 a8 a9 a10 a11 a12 a13 a14 a15 a16 s a18 a19) (fun i s => (∀ j, j < w * 6 → s j = a17 j) ∧ ∀ k, k < i → s (w * 6 + k) = a18 k) 6 0 a17 (by omega) ⟨fun _ _ => rfl, fun k hk => absurd hk (by omega)⟩
    (fun n0 s hI => pk_le 6 6 (fun _ => nm_r (nI_1 w) (H s hI.1 hI.2)) (fun q => absurd q (by omega)))
    (fun n0 i s hi hI hw' => pk_le 6 i (fun q => absurd q (by omega)) (fun _ => ⟨pk_in i 6 hi, pk_in (w * 6 + i) 3840 (by omega) (rc_ix w i), nm_e (nm_r (nI_1 i) (hw' _ (rc_fill (pk_cl (w * 6 + i) (rc_ix w i) (by omega)) (by rw [nI_clamp (show i < 2 ^ 31 by omega)]) hI.1 hI.2)))⟩))
theorem rc_wpush {post : St1 → Prop} {h m l z n ct nc fe : Int32} {a1 a2 a3 a4 a5 a6 a7 a8 a9 a10 a11 a12 a13 a14 a15 a16 a17 a18 a19 : Nat → Int32} {stk : List (Nat × Nat × (Nat → Int32))} {wN p i : Nat} {nt : Nat → Int32} {x y : Int32} (hw : stk.length = wN) (hs : rc_sR a15 a16 a17 stk) (hl : wN < 640) (ha : ∀ k, k < 6 → a18 k = nt k) (hx : x = nI p) (hy : y = nI i)
    (H : ∀ b15 b16 b17 : Nat → Int32, rc_sR b15 b16 b17 ((p, i, nt) :: stk) → post (h, m, l, z, n, ct, nc, nI (wN + 1), fe, a1, a2, a3, a4, a5, a6, a7, a8, a9, a10, a11, a12, a13, a14, b15, b16, b17, a18, a19)) : wpX_push post (h, m, l, z, n, ct, nc, nI wN, fe, a1, a2, a3, a4, a5, a6, a7, a8, a9, a10, a11, a12, a13, a14, a15, a16, a17, a18, a19) x y := by
  subst hw
  have hc : (nI stk.length).toNatClampNeg = stk.length := nI_clamp (by omega)
  refine And.intro (pk_in stk.length 640 hl) (nm_e (And.intro (pk_in stk.length 640 hl) (nm_e (rc_w22 hl (fun b h1 h2 => H _ _ b ?_)))))
  refine ⟨?_, ?_, fun k hk => ?_, rc_sR_congr stk (fun j hj => ?_) (fun j hj => ?_) h1 hs⟩
  · rw [hc, pk_us, hx]
  · rw [hc, pk_us, hy]
  · rw [h2 k hk]; exact ha k hk
  · rw [hc, pk_un (by omega)]
  · rw [hc, pk_un (by omega)]
theorem rc_w228 {post : St1 → Prop} {h m l z n ct wt fe : Int32} {a1 a2 a3 a4 a5 a6 a7 a8 a9 a10 a11 a12 a13 a14 a15 a16 a17 a18 a19 : Nat → Int32} {w : Nat} (hw : w < 64) (H : ∀ b : Nat → Int32, (∀ j, j < w * 6 → b j = a13 j) → (∀ k, k < 6 → b (w * 6 + k) = a18 k) → post (h, m, l, z, n, ct, nI (w + 1), wt, fe, a1, a2, a3, a4, a5, a6, a7, a8, a9, a10, a11, a12, b, a14, a15, a16, a17, a18, a19)) : ∃ fu, wX_goOn_228 post h m l z n ct (nI w) wt fe fu 0 a1 a2 a3 a4 a5 a6 a7 a8 a9 a10 a11 a12 a13 a14 a15 a16 a17 a18 a19 :=
  pk_loop (fun n0 i s => wX_goOn_228 post h m l z n ct (nI w) wt fe n0 (nI i) a1 a2 a3 a4 a5 a6 a7 a8 a9 a10 a11 a12 s a14 a15 a16 a17 a18 a19) (fun i s => (∀ j, j < w * 6 → s j = a13 j) ∧ ∀ k, k < i → s (w * 6 + k) = a18 k) 6 0 a13 (by omega) ⟨fun _ _ => rfl, fun k hk => absurd hk (by omega)⟩
    (fun n0 s hI => pk_le 6 6 (fun _ => nm_r (nI_1 w) (H s hI.1 hI.2)) (fun q => absurd q (by omega)))
    (fun n0 i s hi hI hw' => pk_le 6 i (fun q => absurd q (by omega)) (fun _ => ⟨pk_in i 6 hi, pk_in (w * 6 + i) 384 (by omega) (rc_ix w i), nm_e (nm_r (nI_1 i) (hw' _ (rc_fill (pk_cl (w * 6 + i) (rc_ix w i) (by omega)) (by rw [nI_clamp (show i < 2 ^ 31 by omega)]) hI.1 hI.2)))⟩))
theorem rc_su_1 {c f s : Nat → Int32} {pl p i : Nat} {nt : Nat → Int32} (h : c p = 1) : rc_su c f s pl p i nt = [(rc_tg f p, i, nt), (rc_tg s p, i, nt)] := by
  unfold rc_su; rw [if_pos h]
theorem rc_su_5 {c f s : Nat → Int32} {pl p i : Nat} {nt : Nat → Int32} (h : c p = 5) : rc_su c f s pl p i nt = [(rc_tg f p, i + 1, nt), (rc_tg s p, i, nt)] := by
  unfold rc_su; rw [h]; rfl
theorem rc_su_6 {c f s : Nat → Int32} {pl p i : Nat} {nt : Nat → Int32} (h : c p = 6) : rc_su c f s pl p i nt = [(rc_tg s p, i, nt), (rc_tg f p, i + 1, nt)] := by
  unfold rc_su; rw [h]; rfl
theorem rc_su_2 {c f s : Nat → Int32} {pl p i : Nat} {nt : Nat → Int32} (h : c p = 2) : rc_su c f s pl p i nt = [(rc_tg f p, i, nt)] := by
  unfold rc_su; rw [h]; rfl
theorem rc_su_7 {c f s : Nat → Int32} {pl p i : Nat} {nt : Nat → Int32} (h : c p = 7) : rc_su c f s pl p i nt = if i = 0 then [(rc_tg f p, i, nt)] else [] := by
  unfold rc_su; rw [h]; rfl
theorem rc_su_3 {c f s : Nat → Int32} {pl p i : Nat} {nt : Nat → Int32} (h : c p = 3) : rc_su c f s pl p i nt = [(p + 1, i, rc_nt f pl p nt)] := by
  unfold rc_su; rw [h]; rfl
/-- one that goes on with one place -/
theorem rc_w135 {post : St1 → Prop} {h m l z n ct nc fe : Int32} {a1 a2 a3 a4 a5 a6 a7 a8 a9 a10 a11 a12 a13 a14 a15 a16 a17 a18 a19 : Nat → Int32} {r : List (Nat × Nat × (Nat → Int32))} {p i q : Nat} {nt : Nat → Int32} (hp : p < 64) (hq : nI p + a7 p = nI q) (hr : r.length < 640) (hs : rc_sR a15 a16 a17 r) (ha : ∀ k, k < 6 → a18 k = nt k)
    (H : ∀ b15 b16 b17 : Nat → Int32, rc_sR b15 b16 b17 ((q, i, nt) :: r) → post (h, m, l, z, n, ct, nc, nI (r.length + 1), fe, a1, a2, a3, a4, a5, a6, a7, a8, a9, a10, a11, a12, a13, a14, b15, b16, b17, a18, a19)) : wX_goOn_135 post (nI p) (nI i) h m l z n ct nc (nI r.length) fe a1 a2 a3 a4 a5 a6 a7 a8 a9 a10 a11 a12 a13 a14 a15 a16 a17 a18 a19 :=
  And.intro (pk_in p 64 hp) (rc_wpush rfl hs hr ha (by rw [nI_clamp (show p < 2 ^ 31 by omega)]; exact hq) rfl (fun b15 b16 b17 h => H b15 b16 b17 h))
/-- a note -/
theorem rc_w203 {post : St1 → Prop} {h m l z n ct nc fe : Int32} {a1 a2 a3 a4 a5 a6 a7 a8 a9 a10 a11 a12 a13 a14 a15 a16 a17 a18 a19 : Nat → Int32} {r : List (Nat × Nat × (Nat → Int32))} {p i z0 : Nat} {nt : Nat → Int32} {v : Int32} (hz : z0 < 6) (hr : r.length < 640) (hs : rc_sR a15 a16 a17 r) (ha : ∀ k, k < 6 → a18 k = nt k)
    (H : ∀ b15 b16 b17 b18 : Nat → Int32, rc_sR b15 b16 b17 ((p + 1, i, upd nt z0 v) :: r) → post (h, m, l, z, n, ct, nc, nI (r.length + 1), fe, a1, a2, a3, a4, a5, a6, a7, a8, a9, a10, a11, a12, a13, a14, b15, b16, b17, b18, a19)) : wX_goOn_203 post (nI p) (nI i) v (nI z0) h m l z n ct nc (nI r.length) fe a1 a2 a3 a4 a5 a6 a7 a8 a9 a10 a11 a12 a13 a14 a15 a16 a17 a18 a19 :=
  And.intro (pk_in z0 6 hz) (nm_e (rc_wpush rfl hs hr (fun k hk => by
    rw [nI_clamp (show z0 < 2 ^ 31 by omega)]
    by_cases e : k = z0
    · rw [e, pk_us, pk_us]
    · rw [pk_un e, pk_un e]; exact ha k hk) (nI_1 p) rfl (fun b15 b16 b17 h => H b15 b16 b17 _ h)))
theorem rc_wgo {post : St1 → Prop} {h m l z n ct fe : Int32} {a1 a2 a3 a4 a5 a6 a7 a8 a9 a10 a11 a12 a13 a14 a15 a16 a17 a18 a19 : Nat → Int32} {sz fr pl p i : Nat} {D : Nat → Nat} {G : Nat → Nat → Prop} {nt : Nat → Int32} {r : List (Nat × Nat × (Nat → Int32))} {nx : List (Nat × (Nat → Int32))} (w : rc_WF a6 a7 a8 sz D G) (hx : rc_io D G sz fr pl (p, i, nt)) (hr : r.length ≤ 600) (hn : nx.length < 64) (hs : rc_sR a15 a16 a17 r) (ht : rc_tR a12 a13 0 nx) (ha : ∀ k, k < 6 → a18 k = nt k)
    (H : ∀ (nc' wt' : Int32) (b12 b13 b15 b16 b17 b18 : Nat → Int32), wt' = nI (rc_su a6 a7 a8 pl p i nt ++ r).length → rc_sR b15 b16 b17 (rc_su a6 a7 a8 pl p i nt ++ r) → nc' = nI (if a6 p = 0 ∨ a6 p = 4 then nx ++ [(p, nt)] else nx).length → rc_tR b12 b13 0 (if a6 p = 0 ∨ a6 p = 4 then nx ++ [(p, nt)] else nx) → post (h, m, l, z, n, ct, nc', wt', fe, a1, a2, a3, a4, a5, a6, a7, a8, a9, a10, a11, b12, b13, a14, b15, b16, b17, b18, a19)) :
    wpX_goOn post (h, m, l, z, n, ct, nI nx.length, nI r.length, fe, a1, a2, a3, a4, a5, a6, a7, a8, a9, a10, a11, a12, a13, a14, a15, a16, a17, a18, a19) (nI p) (nI pl) (nI i) := by
  obtain ⟨w1, w2, w3, w4, w5⟩ := w
  obtain ⟨x1, x2, x3⟩ := hx
  dsimp only at x1 x2 x3
  have hp : p < 64 := by omega
  have hc : (nI p).toNatClampNeg = p := nI_clamp (by omega)
  have ea : ∀ {v : Int32}, a6 p = v → a6 (nI p).toNatClampNeg = v := fun h => by rw [hc]; exact h
  have e7 : nI p + a7 (nI p).toNatClampNeg = nI p + a7 p := by rw [hc]
  have e8 : nI p + a8 (nI p).toNatClampNeg = nI p + a8 p := by rw [hc]
  refine And.intro (pk_in p 64 hp) ?_
  have stop : (a6 p = 0 ∨ a6 p = 4) → ∀ x4 : Int32, x4 = a6 p → ¬ x4 = 7 → ¬ x4 = 3 → wX_goOn_151 post (nI p) (nI pl) (nI i) x4 h m l z n ct (nI nx.length) (nI r.length) fe a1 a2 a3 a4 a5 a6 a7 a8 a9 a10 a11 a12 a13 a14 a15 a16 a17 a18 a19 := by
    intro h0 x4 e4 h7 h3
    rw [rc_su_s h0, if_pos h0, List.nil_append] at H
    refine br_f h7 (br_f h3 (And.intro (pk_in nx.length 64 hn) (nm_e (rc_w228 hn (fun b h1 h2 => H _ _ _ _ _ _ _ _ rfl hs (by rw [List.length_append]; rfl) (rc_tR_app nx 0 (rc_tR_congr nx 0 (fun j hj => ?_) (fun j hj => h1 j (by omega)) ht) ?_ (fun k hk => ?_)))))))
    · rw [nI_clamp (by omega), pk_un (by omega)]
    · rw [nI_clamp (by omega), Nat.zero_add, pk_us]
    · rw [Nat.zero_add, h2 k hk]; exact ha k hk
  rcases w5 p x1 with e | e | e | e | e | e | e
  · refine nm_r (ea e) (br_f (by decide) (br_f (by decide) (br_f (by decide) (br_f (by decide) (br_f (by decide) ?_)))))
    exact stop (Or.inr e) 4 e.symm (by decide) (by decide)
  · refine nm_r (ea e.1) (br_f (by decide) (br_f (by decide) (br_f (by decide) (br_f (by decide) (br_f (by decide) ?_)))))
    exact stop (Or.inl e.1) 0 e.1.symm (by decide) (by decide)
  · obtain ⟨e0, ⟨q, q1, q2, q3, q4, q5⟩, v, v1, v2, v3, v4, v5⟩ := e
    rw [rc_su_1 e0, if_neg (show ¬ (a6 p = 0 ∨ a6 p = 4) by rw [e0]; decide), rc_tg_eq q1 (by omega), rc_tg_eq v1 (by omega)] at H
    refine nm_r (ea e0) (br_t rfl (And.intro (pk_in p 64 hp) (rc_wpush rfl hs (by omega) ha (by rw [e8]; exact v1) rfl (fun b15 b16 b17 h1 => And.intro (pk_in p 64 hp) (rc_wpush (wN := r.length + 1) rfl h1 (by omega) ha (by rw [e7]; exact q1) rfl (fun c15 c16 c17 h2 => H _ _ _ _ _ _ _ _ rfl h2 rfl ht))))))
  · obtain ⟨e0, ⟨q, q1, q2, q3, q4, q5⟩, v, v1, v2, v3, v4, v5⟩ := e
    rcases e0 with e0 | e0
    · rw [rc_su_5 e0, if_neg (show ¬ (a6 p = 0 ∨ a6 p = 4) by rw [e0]; decide), rc_tg_eq q1 (by omega), rc_tg_eq v1 (by omega)] at H
      refine nm_r (ea e0) (br_f (by decide) (br_t rfl (And.intro (pk_in p 64 hp) (rc_wpush rfl hs (by omega) ha (by rw [e8]; exact v1) rfl (fun b15 b16 b17 h1 => And.intro (pk_in p 64 hp) (rc_wpush (wN := r.length + 1) rfl h1 (by omega) ha (by rw [e7]; exact q1) (nI_1 i) (fun c15 c16 c17 h2 => H _ _ _ _ _ _ _ _ rfl h2 rfl ht)))))))
    · rw [rc_su_6 e0, if_neg (show ¬ (a6 p = 0 ∨ a6 p = 4) by rw [e0]; decide), rc_tg_eq q1 (by omega), rc_tg_eq v1 (by omega)] at H
      refine nm_r (ea e0) (br_f (by decide) (br_f (by decide) (br_t rfl (And.intro (pk_in p 64 hp) (rc_wpush rfl hs (by omega) ha (by rw [e7]; exact q1) (nI_1 i) (fun b15 b16 b17 h1 => And.intro (pk_in p 64 hp) (rc_wpush (wN := r.length + 1) rfl h1 (by omega) ha (by rw [e8]; exact v1) rfl (fun c15 c16 c17 h2 => H _ _ _ _ _ _ _ _ rfl h2 rfl ht))))))))
  · obtain ⟨e0, q, q1, q2, q3, q4, q5⟩ := e
    rw [rc_su_2 e0, if_neg (show ¬ (a6 p = 0 ∨ a6 p = 4) by rw [e0]; decide), rc_tg_eq q1 (by omega)] at H
    exact nm_r (ea e0) (br_f (by decide) (br_f (by decide) (br_f (by decide) (br_t rfl (rc_w135 hp q1 (by omega) hs ha (fun b15 b16 b17 h => H _ _ _ _ _ _ _ _ rfl h rfl ht))))))
  · obtain ⟨e0, q, q1, q2, q3, q4⟩ := e
    rw [rc_su_7 e0, if_neg (show ¬ (a6 p = 0 ∨ a6 p = 4) by rw [e0]; decide), rc_tg_eq q1 (by omega)] at H
    have hD := w3 p x1
    refine nm_r (ea e0) (br_f (by decide) (br_f (by decide) (br_f (by decide) (br_f (by decide) (br_t rfl (pk_eq i 0 (fun h0 => ?_) (fun h0 => ?_)))))))
    · rw [if_pos h0] at H
      exact rc_w135 hp q1 (by omega) hs ha (fun b15 b16 b17 h => H _ _ _ _ _ _ _ _ rfl h rfl ht)
    · rw [if_neg h0] at H
      exact br_t rfl (H _ _ _ _ _ _ _ _ rfl hs rfl ht)
  · obtain ⟨e0, q0, q1, z0, z1, z2, z3, z4⟩ := e
    rw [rc_su_3 e0, if_neg (show ¬ (a6 p = 0 ∨ a6 p = 4) by rw [e0]; decide)] at H
    unfold rc_nt at H
    rw [z2, nI_clamp (show z0 < 2 ^ 31 by omega)] at H
    refine nm_r (ea e0) (br_f (by decide) (br_f (by decide) (br_f (by decide) (br_f (by decide) (br_f (by decide) (br_f (by decide) (br_t rfl (And.intro (pk_in p 64 hp) (nm_r (show a7 (nI p).toNatClampNeg = nI z0 by rw [hc]; exact z2) (pk_lt z0 3 (fun hz => ?_) (fun hz => ?_)))))))))))
    · rw [if_pos (show nI z0 < 3 from nI_lt (b := 3) hz (by omega))] at H
      have e3 : nI z0 + 3 = nI (z0 + 3) := nI_add z0 3
      have e4 : (16 : Int32) * a18 (nI z0 + 3).toNatClampNeg + nI pl = 16 * nt (nI z0 + 3).toNatClampNeg + nI pl := by
        rw [e3, nI_clamp (show z0 + 3 < 2 ^ 31 by omega), ha (z0 + 3) (by omega)]
      refine And.intro (pk_in (z0 + 3) 6 (by omega) e3) ?_
      rw [e4]
      exact rc_w203 z1 (by omega) hs ha (fun b15 b16 b17 b18 h => H _ _ _ _ _ _ _ _ rfl h rfl ht)
    · rw [if_neg (show ¬ nI z0 < 3 from nI_nlt (b := 3) hz (by omega))] at H
      exact rc_w203 z1 (by omega) hs ha (fun b15 b16 b17 b18 h => H _ _ _ _ _ _ _ _ rfl h rfl ht)
end
section
/-! walks: follow's loop, advance, step, search, findFrom -/
theorem rc_mR_cons {a14 : Nat → Int32} {se : List Nat} {K : Nat} (h : rc_mR a14 se) : rc_mR (upd a14 K 1) (K :: se) := by
  intro m hm
  by_cases e : m = K
  · rw [e, pk_us]
    constructor
    · intro q; exact absurd q (by decide)
    · intro q; exact absurd (List.mem_cons_self) q
  · rw [pk_un e, h m hm]
    constructor
    · intro q r
      rcases List.mem_cons.mp r with t | t
      · exact e t
      · exact q t
    · intro q r; exact q (List.mem_cons_of_mem _ r)
theorem rc_w94 {post : St1 → Prop} {J2 : Int32 → Int32 → Int32 → Int32 → Int32 → Int32 → Int32 → Int32 → Int32 → Int32 → (Nat → Int32) → (Nat → Int32) → (Nat → Int32) → (Nat → Int32) → (Nat → Int32) → (Nat → Int32) → (Nat → Int32) → (Nat → Int32) → (Nat → Int32) → (Nat → Int32) → (Nat → Int32) → (Nat → Int32) → (Nat → Int32) → (Nat → Int32) → (Nat → Int32) → (Nat → Int32) → (Nat → Int32) → (Nat → Int32) → (Nat → Int32) → Prop} {h m l z n ct fe : Int32} {a1 a2 a3 a4 a5 a6 a7 a8 a9 a10 a11 a12 a13 a14 a15 a16 a17 a18 a19 : Nat → Int32} {sz fr pl p i rd : Nat} {D : Nat → Nat} {G : Nat → Nat → Prop} {nt : Nat → Int32} {r : List (Nat × Nat × (Nat → Int32))} {se : List Nat} {nx : List (Nat × (Nat → Int32))} (w : rc_WF a6 a7 a8 sz D G) (hx : rc_io D G sz fr pl (p, i, nt)) (hr : r.length ≤ 600) (hn : nx.length < 64) (hs : rc_sR a15 a16 a17 r) (hat : ∀ k, k < 6 → a17 (r.length * 6 + k) = nt k) (ht : rc_tR a12 a13 0 nx) (hm : rc_mR a14 se) (hK : rc_key a6 p i < 1088)
    (Ho : rc_key a6 p i ∈ se → ∀ b18 : Nat → Int32, J2 (nI (rd + 1)) h m l z n ct (nI nx.length) (nI r.length) fe a1 a2 a3 a4 a5 a6 a7 a8 a9 a10 a11 a12 a13 a14 a15 a16 a17 b18 a19)
    (Hn : rc_key a6 p i ∉ se → ∀ (nc' wt' : Int32) (b12 b13 b14 b15 b16 b17 b18 : Nat → Int32), wt' = nI (rc_su a6 a7 a8 pl p i nt ++ r).length → rc_sR b15 b16 b17 (rc_su a6 a7 a8 pl p i nt ++ r) → nc' = nI (if a6 p = 0 ∨ a6 p = 4 then nx ++ [(p, nt)] else nx).length → rc_tR b12 b13 0 (if a6 p = 0 ∨ a6 p = 4 then nx ++ [(p, nt)] else nx) → rc_mR b14 (rc_key a6 p i :: se) → J2 (nI (rd + 1)) h m l z n ct nc' wt' fe a1 a2 a3 a4 a5 a6 a7 a8 a9 a10 a11 b12 b13 b14 b15 b16 b17 b18 a19) :
    ∃ fu, wX_follow_94 post J2 (nI pl) (nI rd) (nI p) (nI i) (nI (rc_key a6 p i)) h m l z n ct (nI nx.length) (nI r.length) fe fu 0 a1 a2 a3 a4 a5 a6 a7 a8 a9 a10 a11 a12 a13 a14 a15 a16 a17 a18 a19 := by
  have hKc : (nI (rc_key a6 p i)).toNatClampNeg = rc_key a6 p i := nI_clamp (by omega)
  refine pk_loop (fun n0 j s => wX_follow_94 post J2 (nI pl) (nI rd) (nI p) (nI i) (nI (rc_key a6 p i)) h m l z n ct (nI nx.length) (nI r.length) fe n0 (nI j) a1 a2 a3 a4 a5 a6 a7 a8 a9 a10 a11 a12 a13 a14 a15 a16 a17 s a19) (fun j s => ∀ k, k < j → s k = nt k) 6 0 a18 (by omega) (fun k hk => absurd hk (by omega)) ?_ ?_
  · intro n0 s hI
    refine pk_le 6 6 (fun _ => And.intro (pk_in _ 1088 hK) ?_) (fun q => absurd q (by omega))
    by_cases e : rc_key a6 p i ∈ se
    · refine br_f (by rw [hKc]; exact fun q => (hm _ hK).mp q e) (nm_r (nI_1 rd) (Ho e s))
    · refine br_t (by rw [hKc]; exact (hm _ hK).mpr e) (And.intro (pk_in _ 1088 hK) (nm_r (by rw [hKc]) (rc_wgo w hx hr hn hs ht hI (fun nc' wt' b12 b13 b15 b16 b17 b18 h1 h2 h3 h4 => nm_r (nI_1 rd) (Hn e nc' wt' b12 b13 _ b15 b16 b17 b18 h1 h2 h3 h4 (rc_mR_cons hm))))))
  · intro n0 j s hj hI hw
    refine pk_le 6 j (fun q => absurd q (by omega)) (fun _ => And.intro (pk_in (r.length * 6 + j) 3840 (by omega) (rc_ix r.length j)) (And.intro (pk_in j 6 hj) (nm_e (nm_r (nI_1 j) (hw _ (fun k hk => ?_))))))
    rw [nI_clamp (show j < 2 ^ 31 by omega), rc_ix, nI_clamp (show r.length * 6 + j < 2 ^ 31 by omega)]
    by_cases e : k = j
    · rw [e, pk_us]; exact hat j hj
    · rw [pk_un e]; exact hI k (by omega)
theorem rc_wfo {post : St1 → Prop} {h m l z n ct fe : Int32} {a1 a2 a3 a4 a5 a6 a7 a8 a9 a10 a11 a19 : Nat → Int32} {sz fr pl : Nat} {D : Nat → Nat} {G : Nat → Nat → Prop} (w : rc_WF a6 a7 a8 sz D G) (hfr : fr ≤ pl) : ∀ (k : Nat), k ≤ 1300 → ∀ (stk : List (Nat × Nat × (Nat → Int32))) (se : List Nat) (nx : List (Nat × (Nat → Int32))) (a12 a13 a14 a15 a16 a17 a18 : Nat → Int32), rc_FI a6 D G sz fr pl stk se nx → rc_sR a15 a16 a17 stk → rc_mR a14 se → rc_tR a12 a13 0 nx → 2 * (17 * sz - se.length) + stk.length ≤ k →
    (∀ (b12 b13 b14 b15 b16 b17 b18 : Nat → Int32), rc_mR b14 (rc_fo a6 a7 a8 pl k stk se nx).1 → rc_tR b12 b13 0 (rc_fo a6 a7 a8 pl k stk se nx).2 → post (h, m, l, z, n, ct, nI (rc_fo a6 a7 a8 pl k stk se nx).2.length, 0, fe, a1, a2, a3, a4, a5, a6, a7, a8, a9, a10, a11, b12, b13, b14, b15, b16, b17, b18, a19)) →
    wX_follow_2 post (nI pl) (k + 1) (nI (1300 - k)) h m l z n ct (nI nx.length) (nI stk.length) fe a1 a2 a3 a4 a5 a6 a7 a8 a9 a10 a11 a12 a13 a14 a15 a16 a17 a18 a19 := by
  intro k
  induction k with
  | zero =>
    intro _ stk se nx a12 a13 a14 a15 a16 a17 a18 _ _ hm ht hk H
    have h0 : stk = [] := List.length_eq_zero_iff.mp (by omega)
    subst h0
    exact pk_le 1300 1300 (fun _ => H _ _ _ _ _ _ _ hm ht) (fun q => absurd q (by omega))
  | succ k ih =>
    intro hk13 stk se nx a12 a13 a14 a15 a16 a17 a18 hF hs hm ht hk H
    cases stk with
    | nil => exact pk_le 1300 (1300 - (k + 1)) (fun q => absurd q (by omega)) (fun _ => pk_le 0 0 (fun _ => H _ _ _ _ _ _ _ hm ht) (fun q => absurd q (by omega)))
    | cons x r =>
      obtain ⟨p, i, nt⟩ := x
      have w2 := w.2.1
      have hx := hF.1 _ (List.mem_cons_self)
      have hp : p < sz := hx.1
      have hD : i ≤ 16 := Nat.le_trans hx.2.1 (w.2.2.1 p hp)
      have hl := rc_SI_len hF.2.1
      have hl5 := hF.2.2.2.2
      rw [List.length_cons] at hl5 hk
      have hn := rc_TI_len hF.2.2.1
      obtain ⟨s1, s2, s3, s4⟩ := hs
      have hc : (nI r.length).toNatClampNeg = r.length := nI_clamp (by omega)
      have hcp : (nI p).toNatClampNeg = p := nI_clamp (by omega)
      have hK : rc_key a6 p i < 1088 := by
        have := rc_key_lt a6 hp hD
        omega
      have hrd : nI (1300 - (k + 1) + 1) = nI (1300 - k) := by rw [show 1300 - (k + 1) + 1 = 1300 - k by omega]
      refine pk_le 1300 (1300 - (k + 1)) (fun q => absurd q (by omega)) (fun _ => pk_le (r.length + 1) 0 (fun q => absurd q (by omega)) (fun _ => nm_r (nI_pred r.length) (And.intro (pk_in r.length 640 (by omega)) (nm_r (show a15 (nI r.length).toNatClampNeg = nI p by rw [hc]; exact s1) (And.intro (pk_in r.length 640 (by omega)) (nm_r (show a16 (nI r.length).toNatClampNeg = nI i by rw [hc]; exact s2) (And.intro (pk_in p 64 (by omega)) ?_)))))))
      have key : ∃ fu, wX_follow_94 post (wX_follow_2 post (nI pl) (k + 1)) (nI pl) (nI (1300 - (k + 1))) (nI p) (nI i) (nI (rc_key a6 p i)) h m l z n ct (nI nx.length) (nI r.length) fe fu 0 a1 a2 a3 a4 a5 a6 a7 a8 a9 a10 a11 a12 a13 a14 a15 a16 a17 a18 a19 := by
        refine rc_w94 w hx (by omega) (by omega) s4 s3 ht hm hK (fun e b18 => ?_) (fun e nc' wt' b12 b13 b14 b15 b16 b17 b18 h1 h2 h3 h4 h5 => ?_)
        · rw [hrd]
          refine ih (by omega) r se nx a12 a13 a14 a15 a16 a17 b18 (rc_FI_old hF) s4 hm ht (by omega) ?_
          unfold rc_fo at H
          rw [if_pos e] at H
          exact H
        · rw [hrd, h1, h3]
          have hF' := rc_FI_new w hfr hF e
          have hl' := rc_SI_len hF'.2.1
          rw [List.length_cons] at hl'
          have hu := rc_su_len a6 a7 a8 pl p i nt
          refine ih (by omega) _ _ _ b12 b13 b14 b15 b16 b17 b18 hF' h2 h5 h4 (by rw [List.length_cons, List.length_append]; omega) ?_
          unfold rc_fo at H
          rw [if_neg e] at H
          exact H
      by_cases h0 : a6 p = 0
      · refine br_t (by rw [hcp]; exact h0) (br_f (by decide) (nm_r (show nI p * 17 + 0 = nI (rc_key a6 p i) from ?_) key))
        rw [rc_key_s (Or.inl h0), show (17 : Int32) = nI 17 from rfl, pk_mul, ← nI_0, nI_add, Nat.add_zero]
      · refine br_f (by rw [hcp]; exact h0) (And.intro (pk_in p 64 (by omega)) ?_)
        by_cases h4 : a6 p = 4
        · refine br_t (by rw [hcp]; exact h4) (br_f (by decide) (nm_r (show nI p * 17 + 0 = nI (rc_key a6 p i) from ?_) key))
          rw [rc_key_s (Or.inr h4), show (17 : Int32) = nI 17 from rfl, pk_mul, ← nI_0, nI_add, Nat.add_zero]
        · refine br_f (by rw [hcp]; exact h4) (br_t rfl (nm_r (show nI p * 17 + nI i = nI (rc_key a6 p i) from ?_) key))
          rw [rc_key_n (fun q => q.elim h0 h4), show (17 : Int32) = nI 17 from rfl, pk_mul, nI_add]
theorem rc_wfollow {post : St1 → Prop} {h m l z n ct fe : Int32} {a1 a2 a3 a4 a5 a6 a7 a8 a9 a10 a11 a12 a13 a14 a15 a16 a17 a18 a19 : Nat → Int32} {sz fr pl : Nat} {D : Nat → Nat} {G : Nat → Nat → Prop} (w : rc_WF a6 a7 a8 sz D G) (hfr : fr ≤ pl) (x : Nat × Nat × (Nat → Int32)) (se : List Nat) (nx : List (Nat × (Nat → Int32))) (hF : rc_FI a6 D G sz fr pl [x] se nx) (hs : rc_sR a15 a16 a17 [x]) (hm : rc_mR a14 se) (ht : rc_tR a12 a13 0 nx)
    (H : ∀ (b12 b13 b14 b15 b16 b17 b18 : Nat → Int32), rc_mR b14 (rc_fo a6 a7 a8 pl 1300 [x] se nx).1 → rc_tR b12 b13 0 (rc_fo a6 a7 a8 pl 1300 [x] se nx).2 → post (h, m, l, z, n, ct, nI (rc_fo a6 a7 a8 pl 1300 [x] se nx).2.length, 0, fe, a1, a2, a3, a4, a5, a6, a7, a8, a9, a10, a11, b12, b13, b14, b15, b16, b17, b18, a19)) :
    wpX_follow post (h, m, l, z, n, ct, nI nx.length, nI 1, fe, a1, a2, a3, a4, a5, a6, a7, a8, a9, a10, a11, a12, a13, a14, a15, a16, a17, a18, a19) (nI pl) :=
  have w2 := w.2.1
  Exists.intro (1300 + 1) (rc_wfo w hfr 1300 (Nat.le_refl _) [x] se nx a12 a13 a14 a15 a16 a17 a18 hF hs hm ht (by rw [List.length_singleton]; omega) H)
theorem rc_wclear {post : St1 → Prop} {h m l z n ct nc wt fe : Int32} {a1 a2 a3 a4 a5 a6 a7 a8 a9 a10 a11 a12 a13 a14 a15 a16 a17 a18 a19 : Nat → Int32} (H : ∀ b14 : Nat → Int32, (∀ j, j < 1088 → b14 j = 0) → post (h, m, l, z, n, ct, 0, wt, fe, a1, a2, a3, a4, a5, a6, a7, a8, a9, a10, a11, a12, a13, b14, a15, a16, a17, a18, a19)) : wpX_clearSeen post (h, m, l, z, n, ct, nc, wt, fe, a1, a2, a3, a4, a5, a6, a7, a8, a9, a10, a11, a12, a13, a14, a15, a16, a17, a18, a19) :=
  pk_loop (fun n0 i s => wX_clearSeen_2 post h m l z n ct nc wt fe n0 (nI i) a1 a2 a3 a4 a5 a6 a7 a8 a9 a10 a11 a12 a13 s a15 a16 a17 a18 a19) (fun i s => ∀ j, j < i → s j = 0) 1088 0 a14 (by omega) (fun k hk => absurd hk (by omega))
    (fun n0 s hI => pk_le 1088 1088 (fun _ => H s hI) (fun q => absurd q (by omega)))
    (fun n0 i s hi hI hw => pk_le 1088 i (fun q => absurd q (by omega)) (fun _ => And.intro (pk_in i 1088 hi) (nm_r (by rw [nI_clamp (show i < 2 ^ 31 by omega)]) (nm_r (nI_1 i) (hw _ (fun j hj => by
      by_cases e : j = i
      · rw [e, pk_us]
      · rw [pk_un e]; exact hI j (by omega)))))))
theorem rc_copy {s f : Nat → Int32} {i K : Nat} {v : Int32} (hK : K = i) (hv : v = f i) (h : ∀ j, j < i → s j = f j) : ∀ j, j < i + 1 → upd s K v j = f j := by
  intro j hj
  rw [hK]
  by_cases e : j = i
  · rw [e, pk_us, hv]
  · rw [pk_un e]; exact h j (by omega)
theorem rc_w38 {post : St1 → Prop} {h m l z n nc wt fe : Int32} {a1 a2 a3 a4 a5 a6 a7 a8 a9 a10 a11 a12 a13 a14 a15 a16 a17 a18 a19 : Nat → Int32} {w : Nat} (hw : w ≤ 64) (H : ∀ b : Nat → Int32, (∀ j, j < 6 * w → b j = a13 j) → post (h, m, l, z, n, nI w, nc, wt, fe, a1, a2, a3, a4, a5, a6, a7, a8, a9, a10, b, a12, a13, a14, a15, a16, a17, a18, a19)) : ∃ fu, wX_advance_38 post h m l z n (nI w) nc wt fe fu 0 a1 a2 a3 a4 a5 a6 a7 a8 a9 a10 a11 a12 a13 a14 a15 a16 a17 a18 a19 :=
  have e6 : (6 : Int32) * nI w = nI (6 * w) := pk_mul 6 w
  pk_loop (fun n0 i s => wX_advance_38 post h m l z n (nI w) nc wt fe n0 (nI i) a1 a2 a3 a4 a5 a6 a7 a8 a9 a10 s a12 a13 a14 a15 a16 a17 a18 a19) (fun i s => ∀ j, j < i → s j = a13 j) (6 * w) 0 a11 (by omega) (fun k hk => absurd hk (by omega))
    (fun n0 s hI => pk_le (6 * w) (6 * w) (fun _ => H s hI) (fun q => absurd q (by omega)) e6)
    (fun n0 i s hi hI hw' => pk_le (6 * w) i (fun q => absurd q (by omega)) (fun _ => ⟨pk_in i 384 (by omega), pk_in i 384 (by omega), nm_e (nm_r (nI_1 i) (hw' _ (rc_copy (nI_clamp (by omega)) (by rw [nI_clamp (show i < 2 ^ 31 by omega)]) hI)))⟩) e6)
theorem rc_wadv {post : St1 → Prop} {h m l z n ct wt fe : Int32} {a1 a2 a3 a4 a5 a6 a7 a8 a9 a10 a11 a12 a13 a14 a15 a16 a17 a18 a19 : Nat → Int32} {nx : List (Nat × (Nat → Int32))} (hn : nx.length ≤ 64) (ht : rc_tR a12 a13 0 nx) (H : ∀ b10 b11 : Nat → Int32, rc_tR b10 b11 0 nx → post (h, m, l, z, n, nI nx.length, nI nx.length, wt, fe, a1, a2, a3, a4, a5, a6, a7, a8, a9, b10, b11, a12, a13, a14, a15, a16, a17, a18, a19)) : wpX_advance post (h, m, l, z, n, ct, nI nx.length, wt, fe, a1, a2, a3, a4, a5, a6, a7, a8, a9, a10, a11, a12, a13, a14, a15, a16, a17, a18, a19) :=
  pk_loop (fun n0 i s => wX_advance_10 post h m l z n (nI nx.length) (nI nx.length) wt fe n0 (nI i) a1 a2 a3 a4 a5 a6 a7 a8 a9 s a11 a12 a13 a14 a15 a16 a17 a18 a19) (fun i s => ∀ j, j < i → s j = a12 j) nx.length 0 a10 (by omega) (fun k hk => absurd hk (by omega))
    (fun n0 s hI => pk_le nx.length nx.length (fun _ => rc_w38 hn (fun b hb => H s b (rc_tR_congr nx 0 (fun j hj => hI j (by omega)) (fun j hj => hb j (by omega)) ht))) (fun q => absurd q (by omega)))
    (fun n0 i s hi hI hw' => pk_le nx.length i (fun q => absurd q (by omega)) (fun _ => ⟨pk_in i 64 (by omega), pk_in i 64 (by omega), nm_e (nm_r (nI_1 i) (hw' _ (rc_copy (nI_clamp (by omega)) (by rw [nI_clamp (show i < 2 ^ 31 by omega)]) hI)))⟩))
theorem rc_wload {post : St1 → Prop} {h m l z n ct nc wt fe : Int32} {a1 a2 a3 a4 a5 a6 a7 a8 a9 a10 a11 a12 a13 a14 a15 a16 a17 a18 a19 : Nat → Int32} {t : Nat} (ht : t < 64) (H : ∀ b18 : Nat → Int32, (∀ k, k < 6 → b18 k = a11 (t * 6 + k)) → post (h, m, l, z, n, ct, nc, wt, fe, a1, a2, a3, a4, a5, a6, a7, a8, a9, a10, a11, a12, a13, a14, a15, a16, a17, b18, a19)) : wpX_loadNotes post (h, m, l, z, n, ct, nc, wt, fe, a1, a2, a3, a4, a5, a6, a7, a8, a9, a10, a11, a12, a13, a14, a15, a16, a17, a18, a19) (nI t) :=
  pk_loop (fun n0 i s => wX_loadNotes_2 post (nI t) h m l z n ct nc wt fe n0 (nI i) a1 a2 a3 a4 a5 a6 a7 a8 a9 a10 a11 a12 a13 a14 a15 a16 a17 s a19) (fun i s => ∀ k, k < i → s k = a11 (t * 6 + k)) 6 0 a18 (by omega) (fun k hk => absurd hk (by omega))
    (fun n0 s hI => pk_le 6 6 (fun _ => H s hI) (fun q => absurd q (by omega)))
    (fun n0 i s hi hI hw' => pk_le 6 i (fun q => absurd q (by omega)) (fun _ => ⟨pk_in (t * 6 + i) 384 (by omega) (rc_ix t i), pk_in i 6 hi, nm_e (nm_r (nI_1 i) (hw' _ (rc_copy (f := fun k => a11 (t * 6 + k)) (nI_clamp (by omega)) (by rw [rc_ix, nI_clamp (show t * 6 + i < 2 ^ 31 by omega)]) hI)))⟩))
theorem rc_w65 {post : St1 → Prop} {J9 : Int32 → Int32 → Int32 → Int32 → Int32 → Int32 → Int32 → Int32 → Int32 → Int32 → Int32 → (Nat → Int32) → (Nat → Int32) → (Nat → Int32) → (Nat → Int32) → (Nat → Int32) → (Nat → Int32) → (Nat → Int32) → (Nat → Int32) → (Nat → Int32) → (Nat → Int32) → (Nat → Int32) → (Nat → Int32) → (Nat → Int32) → (Nat → Int32) → (Nat → Int32) → (Nat → Int32) → (Nat → Int32) → (Nat → Int32) → (Nat → Int32) → Prop} {x1 x2 : Int32} {t : Nat} {h m l z n ct nc wt fe : Int32} {a1 a2 a3 a4 a5 a6 a7 a8 a9 a10 a11 a12 a13 a14 a15 a16 a17 a18 a19 : Nat → Int32} (H : ∀ b19 : Nat → Int32, (∀ k, k < 6 → b19 k = a18 k) → J9 0 (nI (t + 1)) h m l z n ct nc wt fe a1 a2 a3 a4 a5 a6 a7 a8 a9 a10 a11 a12 a13 a14 a15 a16 a17 a18 b19) : ∃ fu, wX_step_65 post J9 x1 x2 (nI t) h m l z n ct nc wt fe fu 0 a1 a2 a3 a4 a5 a6 a7 a8 a9 a10 a11 a12 a13 a14 a15 a16 a17 a18 a19 :=
  pk_loop (fun n0 i s => wX_step_65 post J9 x1 x2 (nI t) h m l z n ct nc wt fe n0 (nI i) a1 a2 a3 a4 a5 a6 a7 a8 a9 a10 a11 a12 a13 a14 a15 a16 a17 a18 s) (fun i s => ∀ k, k < i → s k = a18 k) 6 0 a19 (by omega) (fun k hk => absurd hk (by omega))
    (fun n0 s hI => pk_le 6 6 (fun _ => nm_r (nI_1 t) (H s hI)) (fun q => absurd q (by omega)))
    (fun n0 i s hi hI hw' => pk_le 6 i (fun q => absurd q (by omega)) (fun _ => ⟨pk_in i 6 hi, pk_in i 6 hi, nm_e (nm_r (nI_1 i) (hw' _ (rc_copy (nI_clamp (by omega)) (by rw [nI_clamp (show i < 2 ^ 31 by omega)]) hI)))⟩))
/-- what the search has found, in the object -/
def rc_RR (R : Option (Nat × (Nat → Int32))) (fe : Int32) (a19 : Nat → Int32) : Prop := match R with
  | none => fe = -4
  | some v => fe = nI v.1 ∧ ∀ k, k < 6 → a19 k = v.2 k
theorem rc_wth {post : St1 → Prop} {h m l z : Int32} {a1 a2 a3 a4 a5 a6 a7 a8 a9 : Nat → Int32} {nn sz fr pl cn : Nat} {D : Nat → Nat} {G : Nat → Nat → Prop} {ac : Int32} {R : Option (Nat × (Nat → Int32))} (w : rc_WF a6 a7 a8 sz D G) (hnn : nn ≤ 10) (hfr : fr ≤ pl) (hpl : pl ≤ nn) (hcn : cn ≤ 64) : ∀ (ts : List (Nat × (Nat → Int32))) (N t : Nat) (se : List Nat) (nx : List (Nat × (Nat → Int32))) (fe : Int32) (a10 a11 a12 a13 a14 a15 a16 a17 a18 a19 : Nat → Int32), ts.length < N → t + ts.length = cn → rc_tR a10 a11 t ts → (∀ y, y ∈ ts → rc_to a6 G sz fr pl y) → rc_FI a6 D G sz fr (pl + 1) [] se nx → rc_mR a14 se → rc_tR a12 a13 0 nx → rc_RR R fe a19 →
    (∀ (fe' : Int32) (b10 b11 b12 b13 b14 b15 b16 b17 b18 b19 : Nat → Int32), rc_tR b10 b11 0 (rc_th a6 a7 a8 a9 nn pl ac ts se nx).2.2 → rc_RR (rc_up (rc_th a6 a7 a8 a9 nn pl ac ts se nx).1 pl R) fe' b19 → post (h, m, l, z, nI nn, nI (rc_th a6 a7 a8 a9 nn pl ac ts se nx).2.2.length, nI (rc_th a6 a7 a8 a9 nn pl ac ts se nx).2.2.length, 0, fe', a1, a2, a3, a4, a5, a6, a7, a8, a9, b10, b11, b12, b13, b14, b15, b16, b17, b18, b19)) →
    wX_step_9 post (nI pl) ac N 1 (nI t) h m l z (nI nn) (nI cn) (nI nx.length) 0 fe a1 a2 a3 a4 a5 a6 a7 a8 a9 a10 a11 a12 a13 a14 a15 a16 a17 a18 a19 := by
  intro ts
  have w2 := w.2.1
  induction ts with
  | nil =>
    intro N t se nx fe a10 a11 a12 a13 a14 a15 a16 a17 a18 a19 hN htc _ _ hF hm ht hR H
    obtain ⟨M, rfl⟩ : ∃ M, N = M + 1 := ⟨N - 1, by rw [List.length_nil] at hN; omega⟩
    have hn := rc_TI_len hF.2.2.1
    rw [List.length_nil] at htc
    exact pk_le cn t (fun _ => rc_wadv (by omega) ht (fun b10 b11 hb => H fe b10 b11 _ _ _ _ _ _ _ _ hb hR)) (fun q => absurd q (by omega))
  | cons x r ih =>
    intro N t se nx fe a10 a11 a12 a13 a14 a15 a16 a17 a18 a19 hN htc hT hto hF hm ht hR H
    obtain ⟨p, nt⟩ := x
    rw [List.length_cons] at hN htc
    obtain ⟨M, rfl⟩ : ∃ M, N = M + 1 := ⟨N - 1, by omega⟩
    obtain ⟨t1, t2, t3⟩ := hT
    have hx := hto _ (List.mem_cons_self)
    have hp : p < sz := hx.1
    have hto' : ∀ y, y ∈ r → rc_to a6 G sz fr pl y := fun y hy => hto y (List.mem_cons_of_mem _ hy)
    have hn := rc_TI_len hF.2.2.1
    have hct : (nI t).toNatClampNeg = t := nI_clamp (by omega)
    have hcp : (nI p).toNatClampNeg = p := nI_clamp (by omega)
    refine pk_le cn t (fun q => absurd q (by omega)) (fun _ => br_f (by decide) (And.intro (pk_in t 64 (by omega)) (nm_r (show a10 (nI t).toNatClampNeg = nI p by rw [hct]; exact t1) (rc_wload (by omega) (fun b18 hb => And.intro (pk_in p 64 (by omega)) ?_)))))
    have ha : ∀ k, k < 6 → b18 k = nt k := fun k hk => (hb k hk).trans (t2 k hk)
    unfold rc_th at H
    by_cases h4 : a6 p = 4
    · rw [if_pos h4] at H
      refine br_t (by rw [hcp]; exact h4) ?_
      have acc : (ac < 0 ∨ ac = nI pl) → ∃ fu, wX_step_65 post (wX_step_9 post (nI pl) ac M) (nI pl) ac (nI t) h m l z (nI nn) (nI cn) (nI nx.length) 0 (nI pl) fu 0 a1 a2 a3 a4 a5 a6 a7 a8 a9 a10 a11 a12 a13 a14 a15 a16 a17 b18 a19 := by
        intro hac
        rw [if_pos hac] at H
        refine rc_w65 (fun b19 h19 => ?_)
        obtain ⟨M', rfl⟩ : ∃ M', M = M' + 1 := ⟨M - 1, by omega⟩
        have fin : wX_step_154 post h m l z (nI nn) (nI cn) (nI nx.length) 0 (nI pl) a1 a2 a3 a4 a5 a6 a7 a8 a9 a10 a11 a12 a13 a14 a15 a16 a17 b18 b19 :=
          rc_wadv (by omega) ht (fun b10 b11 hb => H (nI pl) b10 b11 _ _ _ _ _ _ _ _ hb ⟨rfl, fun k hk => (h19 k hk).trans (ha k hk)⟩)
        exact pk_le cn (t + 1) (fun _ => fin) (fun _ => br_t rfl fin)
      refine br_c (fun hac => acc (Or.inl hac)) (fun hac => br_c (fun hac2 => acc (Or.inr hac2)) (fun hac2 => nm_r (nI_1 t) ?_))
      rw [if_neg (fun q => q.elim hac hac2)] at H
      exact ih M (t + 1) se nx fe a10 a11 a12 a13 a14 a15 a16 a17 b18 a19 (by omega) (by omega) t3 hto' hF hm ht hR H
    · rw [if_neg h4] at H
      refine br_f (by rw [hcp]; exact h4) ?_
      have skip : ¬ (pl < nn ∧ (a7 p = 3 ∨ a7 p = a9 pl)) → wX_step_9 post (nI pl) ac M 1 (nI (t + 1)) h m l z (nI nn) (nI cn) (nI nx.length) 0 fe a1 a2 a3 a4 a5 a6 a7 a8 a9 a10 a11 a12 a13 a14 a15 a16 a17 b18 a19 := by
        intro hs
        rw [if_neg hs] at H
        exact ih M (t + 1) se nx fe a10 a11 a12 a13 a14 a15 a16 a17 b18 a19 (by omega) (by omega) t3 hto' hF hm ht hR H
      have go : (pl < nn ∧ (a7 p = 3 ∨ a7 p = a9 pl)) → wX_step_132 post (wX_step_9 post (nI pl) ac M) (nI pl) ac 1 (nI t) (nI p) h m l z (nI nn) (nI cn) (nI nx.length) 0 fe a1 a2 a3 a4 a5 a6 a7 a8 a9 a10 a11 a12 a13 a14 a15 a16 a17 b18 a19 := by
        intro hs
        rw [if_pos hs] at H
        have hP := rc_FI_push w hx h4 hF
        have hF' := rc_fo_FI w (show fr ≤ pl + 1 by omega) 1300 _ _ _ hP
        refine rc_wpush (stk := []) (wN := 0) (p := p + 1) (i := 0) (nt := nt) rfl trivial (by omega) ha (nI_1 p) rfl (fun b15 b16 b17 h1 => ?_)
        refine ek_v (P := fun v => wpX_follow _ _ v) (nI_1 pl) (rc_wfollow w (show fr ≤ pl + 1 by omega) (p + 1, 0, nt) se nx hP h1 hm ht (fun c12 c13 c14 c15 c16 c17 c18 g1 g2 => nm_r (nI_1 t) ?_))
        exact ih M (t + 1) _ _ fe a10 a11 c12 c13 c14 c15 c16 c17 c18 a19 (by omega) (by omega) t3 hto' hF' g1 g2 hR H
      refine pk_le nn pl (fun q => nm_r (nI_1 t) (skip (fun s => absurd s.1 (by omega)))) (fun q => And.intro (pk_in p 64 (by omega)) (br_c (fun h3 => go ⟨q, Or.inl (by rw [hcp] at h3; exact h3)⟩) (fun h3 => And.intro (pk_in p 64 (by omega)) (And.intro (pk_in pl 10 (by omega)) (br_c (fun h5 => go ⟨q, Or.inr ?_⟩) (fun h5 => nm_r (nI_1 t) (skip (fun s => ?_))))))))
      · rw [hcp, nI_clamp (show pl < 2 ^ 31 by omega)] at h5
        exact h5
      · rw [hcp] at h3
        rw [hcp, nI_clamp (show pl < 2 ^ 31 by omega)] at h5
        exact s.2.elim h3 h5
theorem rc_wstep {post : St1 → Prop} {h m l z : Int32} {a1 a2 a3 a4 a5 a6 a7 a8 a9 : Nat → Int32} {nn sz fr pl : Nat} {D : Nat → Nat} {G : Nat → Nat → Prop} {ac : Int32} {R : Option (Nat × (Nat → Int32))} (w : rc_WF a6 a7 a8 sz D G) (hnn : nn ≤ 10) (hfr : fr ≤ pl) (hpl : pl ≤ nn) (ths : List (Nat × (Nat → Int32))) (nc fe : Int32) (a10 a11 a12 a13 a14 a15 a16 a17 a18 a19 : Nat → Int32) (hT : rc_tR a10 a11 0 ths) (hTI : rc_TI a6 G sz fr pl ths) (hR : rc_RR R fe a19)
    (H : ∀ (fe' : Int32) (b10 b11 b12 b13 b14 b15 b16 b17 b18 b19 : Nat → Int32), rc_tR b10 b11 0 (rc_th a6 a7 a8 a9 nn pl ac ths [] []).2.2 → rc_RR (rc_up (rc_th a6 a7 a8 a9 nn pl ac ths [] []).1 pl R) fe' b19 → post (h, m, l, z, nI nn, nI (rc_th a6 a7 a8 a9 nn pl ac ths [] []).2.2.length, nI (rc_th a6 a7 a8 a9 nn pl ac ths [] []).2.2.length, 0, fe', a1, a2, a3, a4, a5, a6, a7, a8, a9, b10, b11, b12, b13, b14, b15, b16, b17, b18, b19)) :
    wpX_step post (h, m, l, z, nI nn, nI ths.length, nc, 0, fe, a1, a2, a3, a4, a5, a6, a7, a8, a9, a10, a11, a12, a13, a14, a15, a16, a17, a18, a19) (nI pl) ac := by
  have w2 := w.2.1
  have hl := rc_TI_len hTI
  refine rc_wclear (fun b14 hb => Exists.intro (ths.length + 1) ?_)
  exact rc_wth (cn := ths.length) w hnn hfr hpl (by omega) ths (ths.length + 1) 0 [] [] fe a10 a11 a12 a13 b14 a15 a16 a17 a18 a19 (by omega) (by omega) hT hTI.1 rc_FI_0 (fun m hm => ⟨fun _ => List.not_mem_nil, fun _ => hb m hm⟩) trivial hR H
theorem rc_w54 {post : St1 → Prop} {h m l z : Int32} {a1 a2 a3 a4 a5 a6 a7 a8 a9 : Nat → Int32} {nn sz fr : Nat} {D : Nat → Nat} {G : Nat → Nat → Prop} {ac : Int32} (w : rc_WF a6 a7 a8 sz D G) (hnn : nn ≤ 10) : ∀ (k pl N : Nat) (ths : List (Nat × (Nat → Int32))) (R : Option (Nat × (Nat → Int32))) (nc fe : Int32) (a10 a11 a12 a13 a14 a15 a16 a17 a18 a19 : Nat → Int32), k < N → fr ≤ pl → pl + k = nn + 1 → rc_tR a10 a11 0 ths → rc_TI a6 G sz fr pl ths → rc_RR R fe a19 →
    (∀ (ct nc wt fe : Int32) (a10 a11 a12 a13 a14 a15 a16 a17 a18 a19 : Nat → Int32), rc_RR (rc_se a6 a7 a8 a9 nn ac k pl ths R) fe a19 → post (h, m, l, z, nI nn, ct, nc, wt, fe, a1, a2, a3, a4, a5, a6, a7, a8, a9, a10, a11, a12, a13, a14, a15, a16, a17, a18, a19)) →
    wX_search_54 post ac N (nI pl) h m l z (nI nn) (nI ths.length) nc 0 fe a1 a2 a3 a4 a5 a6 a7 a8 a9 a10 a11 a12 a13 a14 a15 a16 a17 a18 a19 := by
  intro k
  have w2 := w.2.1
  induction k with
  | zero =>
    intro pl N ths R nc fe a10 a11 a12 a13 a14 a15 a16 a17 a18 a19 hN hfr hk hT hTI hR H
    obtain ⟨M, rfl⟩ : ∃ M, N = M + 1 := ⟨N - 1, by omega⟩
    exact pk_lt nn pl (fun _ => H _ _ _ _ _ _ _ _ _ _ _ _ _ _ hR) (fun q => absurd q (by omega))
  | succ k ih =>
    intro pl N ths R nc fe a10 a11 a12 a13 a14 a15 a16 a17 a18 a19 hN hfr hk hT hTI hR H
    obtain ⟨M, rfl⟩ : ∃ M, N = M + 1 := ⟨N - 1, by omega⟩
    have hl := rc_TI_len hTI
    unfold rc_se at H
    refine pk_lt nn pl (fun q => absurd q (by omega)) (fun _ => pk_le ths.length 0 (fun q => ?_) (fun q => ?_))
    · rw [if_pos (List.length_eq_zero_iff.mp (by omega))] at H
      exact H _ _ _ _ _ _ _ _ _ _ _ _ _ _ hR
    · rw [if_neg (fun e => by rw [e] at q; exact absurd q (by decide))] at H
      refine rc_wstep w hnn hfr (by omega) ths nc fe a10 a11 a12 a13 a14 a15 a16 a17 a18 a19 hT hTI hR (fun fe' b10 b11 b12 b13 b14 b15 b16 b17 b18 b19 h1 h2 => nm_r (nI_1 pl) ?_)
      exact ih (pl + 1) M _ _ _ fe' b10 b11 b12 b13 b14 b15 b16 b17 b18 b19 (by omega) (by omega) (by omega) h1 (rc_th_FI w hfr ths [] [] hTI.1 rc_FI_0).1.2.2.1 h2 H
theorem rc_w12 {post : St1 → Prop} {x1 x2 : Int32} {h m l z ct nc wt fe : Int32} {a1 a2 a3 a4 a5 a6 a7 a8 a9 a10 a11 a12 a13 a14 a15 a16 a17 a18 a19 : Nat → Int32} {nn : Nat} (H : ∀ (n0 : Nat) (b18 : Nat → Int32), (∀ k, k < 6 → b18 k = -4) → wX_search_12 post x1 x2 h m l z (nI nn) ct nc wt fe (n0 + 1) 6 a1 a2 a3 a4 a5 a6 a7 a8 a9 a10 a11 a12 a13 a14 a15 a16 a17 b18 a19) : ∃ fu, wX_search_12 post x1 x2 h m l z (nI nn) ct nc wt fe fu 0 a1 a2 a3 a4 a5 a6 a7 a8 a9 a10 a11 a12 a13 a14 a15 a16 a17 a18 a19 :=
  pk_loop (fun n0 i s => wX_search_12 post x1 x2 h m l z (nI nn) ct nc wt fe n0 (nI i) a1 a2 a3 a4 a5 a6 a7 a8 a9 a10 a11 a12 a13 a14 a15 a16 a17 s a19) (fun i s => ∀ k, k < i → s k = -4) 6 0 a18 (by omega) (fun k hk => absurd hk (by omega))
    (fun n0 s hI => H n0 s hI)
    (fun n0 i s hi hI hw' => pk_le 6 i (fun q => absurd q (by omega)) (fun _ => And.intro (pk_in i 6 hi) (nm_e (nm_r (nI_1 i) (hw' _ (rc_copy (f := fun _ => -4) (nI_clamp (by omega)) rfl hI))))))
theorem rc_wsearch {post : St1 → Prop} {h m l z : Int32} {a1 a2 a3 a4 a5 a6 a7 a8 a9 : Nat → Int32} {nn sz fr : Nat} {D : Nat → Nat} {G : Nat → Nat → Prop} {ac : Int32} (w : rc_WF a6 a7 a8 sz D G) (hnn : nn ≤ 10) (hf : fr ≤ nn) (ct nc wt fe : Int32) (a10 a11 a12 a13 a14 a15 a16 a17 a18 a19 : Nat → Int32)
    (H : ∀ (ct nc wt fe : Int32) (a10 a11 a12 a13 a14 a15 a16 a17 a18 a19 : Nat → Int32), rc_RR (rc_sr a6 a7 a8 a9 nn fr ac) fe a19 → post (h, m, l, z, nI nn, ct, nc, wt, fe, a1, a2, a3, a4, a5, a6, a7, a8, a9, a10, a11, a12, a13, a14, a15, a16, a17, a18, a19)) : wpX_search post (h, m, l, z, nI nn, ct, nc, wt, fe, a1, a2, a3, a4, a5, a6, a7, a8, a9, a10, a11, a12, a13, a14, a15, a16, a17, a18, a19) (nI fr) ac := by
  have w2 := w.2.1
  refine rc_wclear (fun b14 hb => rc_w12 (fun n0 b18 h18 => br_t (by decide) ?_))
  refine rc_wpush (stk := []) (wN := 0) (p := 0) (i := 0) (nt := fun _ => -4) rfl trivial (by omega) h18 rfl rfl (fun b15 b16 b17 h1 => ?_)
  have hF0 := rc_FI_st fr fr w
  have hF := rc_fo_FI w (Nat.le_refl fr) 1300 _ _ _ hF0
  have hl := rc_TI_len hF.2.2.1
  refine rc_wfollow w (Nat.le_refl fr) (0, 0, fun _ => -4) [] [] hF0 h1 (fun m hm => ⟨fun _ => List.not_mem_nil, fun _ => hb m hm⟩) trivial (fun c12 c13 c14 c15 c16 c17 c18 g1 g2 => ?_)
  refine rc_wadv (by omega) g2 (fun b10 b11 h2 => Exists.intro (nn + 1 - fr + 1) ?_)
  exact rc_w54 w hnn (nn + 1 - fr) fr (nn + 1 - fr + 1) _ none _ (-4) b10 b11 c12 c13 c14 c15 c16 c17 c18 a19 (by omega) (Nat.le_refl _) (by omega) h2 hF.2.2.1 rfl H
/-- findFrom's answer -/
def rc_rv (v : Option (Nat × Nat × (Nat → Int32))) : Int32 := match v with
  | none => -4
  | some x => nI x.1
def rc_RF (v : Option (Nat × Nat × (Nat → Int32))) (fe : Int32) (a19 : Nat → Int32) : Prop := ∀ i e nt, v = some (i, e, nt) → fe = nI e ∧ ∀ k, k < 6 → a19 k = nt k
theorem rc_wff {post : Int32 → St1 → Prop} {h m l z : Int32} {a1 a2 a3 a4 a5 a6 a7 a8 a9 : Nat → Int32} {nn sz : Nat} {D : Nat → Nat} {G : Nat → Nat → Prop} (w : rc_WF a6 a7 a8 sz D G) (hnn : nn ≤ 10) : ∀ (k i N : Nat) (ct nc wt fe : Int32) (a10 a11 a12 a13 a14 a15 a16 a17 a18 a19 : Nat → Int32), k < N → i + k = nn + 1 →
    (∀ (ct nc wt fe : Int32) (a10 a11 a12 a13 a14 a15 a16 a17 a18 a19 : Nat → Int32), rc_RF (rc_fi a6 a7 a8 a9 nn k i) fe a19 → post (rc_rv (rc_fi a6 a7 a8 a9 nn k i)) (h, m, l, z, nI nn, ct, nc, wt, fe, a1, a2, a3, a4, a5, a6, a7, a8, a9, a10, a11, a12, a13, a14, a15, a16, a17, a18, a19)) → wX_findFrom_2 post N (nI i) h m l z (nI nn) ct nc wt fe a1 a2 a3 a4 a5 a6 a7 a8 a9 a10 a11 a12 a13 a14 a15 a16 a17 a18 a19 := by
  intro k
  induction k with
  | zero =>
    intro i N ct nc wt fe a10 a11 a12 a13 a14 a15 a16 a17 a18 a19 hN hk H
    obtain ⟨M, rfl⟩ : ∃ M, N = M + 1 := ⟨N - 1, by omega⟩
    exact pk_lt nn i (fun _ => H _ _ _ _ _ _ _ _ _ _ _ _ _ _ (fun i e nt q => absurd q (by simp [rc_fi]))) (fun q => absurd q (by omega))
  | succ k ih =>
    intro i N ct nc wt fe a10 a11 a12 a13 a14 a15 a16 a17 a18 a19 hN hk H
    obtain ⟨M, rfl⟩ : ∃ M, N = M + 1 := ⟨N - 1, by omega⟩
    refine pk_lt nn i (fun q => absurd q (by omega)) (fun _ => rc_wsearch w hnn (by omega) _ _ _ _ _ _ _ _ _ _ _ _ _ _ (fun ct nc wt fe a10 a11 a12 a13 a14 a15 a16 a17 a18 a19 hR => ?_))
    have hA := rc_sr_An (t := a9) (ac := -1) w (show i ≤ nn + 1 by omega)
    unfold rc_fi at H
    generalize rc_sr a6 a7 a8 a9 nn i (-1) = R at hR H hA
    cases R with
    | none =>
      have e : fe = -4 := hR
      exact br_t (by rw [e]; decide) (nm_r (nI_1 i) (ih (i + 1) M _ _ _ _ _ _ _ _ _ _ _ _ _ _ (by omega) (by omega) H))
    | some v =>
      obtain ⟨e, nt⟩ := v
      have he : fe = nI e := hR.1
      have hA' := hA e nt rfl
      refine br_f (by rw [he]; exact nI_pos (by omega)) (H _ _ _ _ _ _ _ _ _ _ _ _ _ _ (fun i' e' nt' q => ?_))
      have q2 : (i, e, nt) = (i', e', nt') := Option.some.inj q
      obtain ⟨_, q3⟩ := Prod.mk.inj q2
      obtain ⟨q4, q5⟩ := Prod.mk.inj q3
      rw [← q4, ← q5]
      exact hR
theorem rc_wfind {post : Int32 → St1 → Prop} {h m l z : Int32} {a1 a2 a3 a4 a5 a6 a7 a8 a9 : Nat → Int32} {nn sz i : Nat} {D : Nat → Nat} {G : Nat → Nat → Prop} (w : rc_WF a6 a7 a8 sz D G) (hnn : nn ≤ 10) (hi : i ≤ nn) (ct nc wt fe : Int32) (a10 a11 a12 a13 a14 a15 a16 a17 a18 a19 : Nat → Int32)
    (H : ∀ (ct nc wt fe : Int32) (a10 a11 a12 a13 a14 a15 a16 a17 a18 a19 : Nat → Int32), rc_RF (rc_find a6 a7 a8 a9 nn i) fe a19 → post (rc_rv (rc_find a6 a7 a8 a9 nn i)) (h, m, l, z, nI nn, ct, nc, wt, fe, a1, a2, a3, a4, a5, a6, a7, a8, a9, a10, a11, a12, a13, a14, a15, a16, a17, a18, a19)) : wpX_findFrom post (h, m, l, z, nI nn, ct, nc, wt, fe, a1, a2, a3, a4, a5, a6, a7, a8, a9, a10, a11, a12, a13, a14, a15, a16, a17, a18, a19) (nI i) :=
  Exists.intro (nn + 1 - i + 1) (rc_wff w hnn (nn + 1 - i) i (nn + 1 - i + 1) _ _ _ _ _ _ _ _ _ _ _ _ _ _ (by omega) (by omega) H)
end
section
/-! patterns: pieces of programs -/
def rc_pc (c f s : Nat → Int32) (lo hi d : Nat) : Prop := ∃ (D : Nat → Nat) (G : Nat → Nat → Prop), D hi = 0 ∧ (∀ g, ¬ G lo g) ∧ (∀ g, ¬ G hi g) ∧ ∀ p, lo ≤ p → p < hi → D p ≤ d ∧ rc_ok c f s D G lo hi p
theorem rc_tgt {A B p p' q q' : Nat} {v : Int32} (hp : p' + A = p + B) (hq : q' + A = q + B) (h : nI p + v = nI q) : nI p' + v = nI q' := by
  have h1 : nI p' + nI A = nI p + nI B := by rw [nI_add, nI_add, hp]
  have h2 : nI q' + nI A = nI q + nI B := by rw [nI_add, nI_add, hq]
  generalize nI p' = P' at *
  generalize nI q' = Q' at *
  generalize nI p = P at *
  generalize nI q = Q at *
  generalize nI A = A' at *
  generalize nI B = B' at *
  grind
theorem rc_ok_emb {c f s c' f' s' : Nat → Int32} {D D' : Nat → Nat} {G G' : Nat → Nat → Prop} {E : Nat → Prop} {lo hi lo' hi' p p' A B d : Nat} (h : rc_ok c f s D G lo hi p) (hp1 : lo ≤ p) (hp2 : p < hi) (hp : p' + A = p + B) (hA : A ≤ lo + B) (hlo : lo' + A ≤ lo + B) (hhi : hi + B ≤ hi' + A) (hc : c' p' = c p) (hf : f' p' = f p) (hs : s' p' = s p)
    (hD1 : ∀ q q', lo ≤ q → q ≤ hi → q' + A = q + B → D q + d ≤ D' q') (hD2 : D' p' ≤ D p + d) (hG1 : ∀ q q', lo ≤ q → q ≤ hi → q' + A = q + B → ∀ g, G' q' g → G q g ∨ E g) (hG2 : ∀ g, G p g ∨ E g → G' p' g) : rc_ok c' f' s' D' G' lo' hi' p' := by
  have ed : ∀ {v : Int32} {e : Nat}, (∃ q, nI p + v = nI q ∧ rc_ed D G lo hi p q e) → ∃ q, nI p' + v = nI q ∧ rc_ed D' G' lo' hi' p' q e := by
    intro v e hq
    obtain ⟨q, q1, q2, q3, q4, q5⟩ := hq
    have hq' : (q + B - A) + A = q + B := by omega
    refine ⟨q + B - A, rc_tgt hp hq' q1, by omega, by omega, ?_, fun g hg => ?_⟩
    · have := hD1 q _ q2 q3 hq'
      omega
    · rcases hG1 q _ q2 q3 hq' g hg with r | r
      · exact hG2 g (Or.inl (q5 g r))
      · exact hG2 g (Or.inr r)
  have hn : (p' + 1) + A = (p + 1) + B := by omega
  unfold rc_ok
  rw [hc, hf, hs]
  rcases h with e | e | e | e | e | e
  · refine Or.inl ⟨e.1, by omega, fun g hg => ?_⟩
    rcases hG1 (p + 1) (p' + 1) (by omega) (by omega) hn g hg with r | r
    · exact hG2 g (Or.inl (e.2.2 g r))
    · exact hG2 g (Or.inr r)
  · exact Or.inr (Or.inl ⟨e.1, ed e.2.1, ed e.2.2⟩)
  · exact Or.inr (Or.inr (Or.inl ⟨e.1, ed e.2.1, ed e.2.2⟩))
  · exact Or.inr (Or.inr (Or.inr (Or.inl ⟨e.1, ed e.2⟩)))
  · refine Or.inr (Or.inr (Or.inr (Or.inr (Or.inl ⟨e.1, ?_⟩))))
    obtain ⟨q, q1, q2, q3, q5⟩ := e.2
    have hq' : (q + B - A) + A = q + B := by omega
    refine ⟨q + B - A, rc_tgt hp hq' q1, by omega, by omega, fun g hg => ?_⟩
    rcases hG1 q _ q2 q3 hq' g hg with r | r
    · exact hG2 g (Or.inl (q5 g r))
    · exact hG2 g (Or.inr r)
  · refine Or.inr (Or.inr (Or.inr (Or.inr (Or.inr ?_))))
    obtain ⟨e0, e1, e2, z, z1, z2, z3, z4⟩ := e
    refine ⟨e0, by omega, ?_, z, z1, z2, fun hz => ⟨hG2 z (Or.inl (z3 hz).1), fun g hg => ?_⟩, fun hz g hg => ?_⟩
    · have := hD1 (p + 1) (p' + 1) (by omega) (by omega) hn
      omega
    · rcases hG1 (p + 1) (p' + 1) (by omega) (by omega) hn g hg with r | r
      · exact hG2 g (Or.inl ((z3 hz).2 g r))
      · exact hG2 g (Or.inr r)
    · rcases hG1 (p + 1) (p' + 1) (by omega) (by omega) hn g hg with r | r
      · rcases z4 hz g r with t | t
        · exact Or.inl t
        · exact Or.inr (hG2 g (Or.inl t))
      · exact Or.inr (hG2 g (Or.inr r))
theorem rc_pc_mono {c f s c' f' s' : Nat → Int32} {lo hi d d' : Nat} (h : rc_pc c f s lo hi d) (hd : d ≤ d') (hc : ∀ p, lo ≤ p → p < hi → c' p = c p ∧ f' p = f p ∧ s' p = s p) : rc_pc c' f' s' lo hi d' := by
  obtain ⟨D, G, h1, h2, h3, h4⟩ := h
  refine ⟨D, G, h1, h2, h3, fun p p1 p2 => ?_⟩
  obtain ⟨i1, i2⟩ := h4 p p1 p2
  obtain ⟨c1, c2, c3⟩ := hc p p1 p2
  refine ⟨by omega, rc_ok_emb (E := fun _ => False) (A := 0) (B := 0) (d := 0) i2 p1 p2 rfl (by omega) (by omega) (by omega) c1 c2 c3 (fun q q' _ _ e => ?_) (by omega) (fun q q' _ _ e g hg => ?_) (fun g hg => ?_)⟩
  · have : q' = q := by omega
    rw [this]; omega
  · have : q' = q := by omega
    rw [this] at hg; exact Or.inl hg
  · exact hg.elim (fun x => x) (fun x => x.elim)
theorem rc_pc_nil (c f s : Nat → Int32) (lo d : Nat) : rc_pc c f s lo lo d := ⟨fun _ => 0, fun _ _ => False, rfl, fun _ h => h, fun _ h => h, fun p h1 h2 => absurd h1 (by omega)⟩
theorem rc_pc_read {c f s : Nat → Int32} {lo d : Nat} (h : c lo = 0) : rc_pc c f s lo (lo + 1) d :=
  ⟨fun _ => 0, fun _ _ => False, rfl, fun _ h => h, fun _ h => h, fun p h1 h2 => ⟨Nat.zero_le _, by
    have e : p = lo := by omega
    rw [e]
    exact Or.inl ⟨h, Nat.le_refl _, fun g hg => hg⟩⟩⟩
theorem rc_pc_cat {c f s : Nat → Int32} {x y L d : Nat} (hxy : x ≤ y) (hyL : y ≤ L) (h1 : rc_pc c f s x y d) (h2 : rc_pc c f s y L d) : rc_pc c f s x L d := by
  obtain ⟨D1, G1, p1, p2, p3, p4⟩ := h1
  obtain ⟨D2, G2, q1, q2, q3, q4⟩ := h2
  refine ⟨fun q => if q < y then D1 q else D2 q, fun q g => if q < y then G1 q g else G2 q g, ?_, fun g => ?_, fun g => ?_, fun p hx hL => ?_⟩
  · show (if L < y then D1 L else D2 L) = 0
    rw [if_neg (by omega)]; exact q1
  · show ¬ (if x < y then G1 x g else G2 x g)
    by_cases e : x < y
    · rw [if_pos e]; exact p2 g
    · rw [if_neg e, show x = y by omega]; exact q2 g
  · show ¬ (if L < y then G1 L g else G2 L g)
    rw [if_neg (by omega)]; exact q3 g
  · by_cases e : p < y
    · obtain ⟨i1, i2⟩ := p4 p hx e
      refine ⟨by show (if p < y then D1 p else D2 p) ≤ d; rw [if_pos e]; exact i1, rc_ok_emb (E := fun _ => False) (A := 0) (B := 0) (d := 0) i2 hx e rfl (by omega) (by omega) (by omega) rfl rfl rfl (fun q q' _ h5 e' => ?_) ?_ (fun q q' _ h5 e' g hg => ?_) (fun g hg => ?_)⟩
      · have e3 : q' = q := by omega
        show D1 q + 0 ≤ (if q' < y then D1 q' else D2 q')
        rw [e3]
        by_cases e4 : q < y
        · rw [if_pos e4]; omega
        · rw [show q = y by omega, p1]; omega
      · show (if p < y then D1 p else D2 p) ≤ D1 p + 0
        rw [if_pos e]; omega
      · have e3 : q' = q := by omega
        have hg' : (if q' < y then G1 q' g else G2 q' g) := hg
        rw [e3] at hg'
        by_cases e4 : q < y
        · rw [if_pos e4] at hg'; exact Or.inl hg'
        · rw [if_neg e4, show q = y by omega] at hg'; exact absurd hg' (q2 g)
      · show (if p < y then G1 p g else G2 p g)
        rw [if_pos e]
        exact hg.elim (fun x => x) (fun x => x.elim)
    · obtain ⟨i1, i2⟩ := q4 p (by omega) hL
      refine ⟨by show (if p < y then D1 p else D2 p) ≤ d; rw [if_neg e]; exact i1, rc_ok_emb (E := fun _ => False) (A := 0) (B := 0) (d := 0) i2 (by omega) hL rfl (by omega) (by omega) (by omega) rfl rfl rfl (fun q q' h6 h5 e' => ?_) ?_ (fun q q' h6 h5 e' g hg => ?_) (fun g hg => ?_)⟩
      · have e3 : q' = q := by omega
        show D2 q + 0 ≤ (if q' < y then D1 q' else D2 q')
        rw [e3, if_neg (by omega)]; omega
      · show (if p < y then D1 p else D2 p) ≤ D2 p + 0
        rw [if_neg e]; omega
      · have e3 : q' = q := by omega
        have hg' : (if q' < y then G1 q' g else G2 q' g) := hg
        rw [e3, if_neg (by omega)] at hg'
        exact Or.inl hg'
      · show (if p < y then G1 p g else G2 p g)
        rw [if_neg e]
        exact hg.elim (fun x => x) (fun x => x.elim)
/-- an array with two new cells, at x and ahead of what lay at y -/
def rc_A2 (a s : Nat → Int32) (x y L : Nat) (u v : Int32) : Prop := (∀ j, j < x → s j = a j) ∧ s x = u ∧ (∀ j, x ≤ j → j < y → s (j + 1) = a j) ∧ s (y + 1) = v ∧ ∀ j, y ≤ j → j < L → s (j + 2) = a j
theorem rc_pc_alt {c f s c' f' s' : Nat → Int32} {x y L d : Nat} {v : Int32} (hxy : x ≤ y) (hyL : y ≤ L) (h1 : rc_pc c f s x y d) (h2 : rc_pc c f s y L d) (hc : rc_A2 c c' x y L 1 2) (hf : rc_A2 f f' x y L 1 (nI (L - y + 1))) (hs : rc_A2 s s' x y L (nI (y - x + 2)) v) : rc_pc c' f' s' x (L + 2) d := by
  obtain ⟨D1, G1, p1, p2, p3, p4⟩ := h1
  obtain ⟨D2, G2, q1, q2, q3, q4⟩ := h2
  obtain ⟨_, c2, c3, c4, c5⟩ := hc
  obtain ⟨_, f2, f3, f4, f5⟩ := hf
  obtain ⟨_, s2, s3, s4, s5⟩ := hs
  let D' : Nat → Nat := fun q => if q ≤ x then 0 else if q ≤ y then D1 (q - 1) else if q = y + 1 then 0 else D2 (q - 2)
  let G' : Nat → Nat → Prop := fun q g => if q ≤ x then False else if q ≤ y then G1 (q - 1) g else if q = y + 1 then False else G2 (q - 2) g
  have D0 : ∀ q, q ≤ x → D' q = 0 := fun q h => if_pos h
  have D1' : ∀ q, x ≤ q → q < y → D' (q + 1) = D1 q := fun q h h' => by
    show (if q + 1 ≤ x then 0 else if q + 1 ≤ y then D1 (q + 1 - 1) else if q + 1 = y + 1 then 0 else D2 (q + 1 - 2)) = D1 q
    rw [if_neg (by omega), if_pos (by omega), Nat.add_sub_cancel]
  have Dy : D' (y + 1) = 0 := by
    show (if y + 1 ≤ x then 0 else if y + 1 ≤ y then D1 (y + 1 - 1) else if y + 1 = y + 1 then 0 else D2 (y + 1 - 2)) = 0
    rw [if_neg (by omega), if_neg (by omega), if_pos rfl]
  have D2' : ∀ q, y ≤ q → D' (q + 2) = D2 q := fun q h => by
    show (if q + 2 ≤ x then 0 else if q + 2 ≤ y then D1 (q + 2 - 1) else if q + 2 = y + 1 then 0 else D2 (q + 2 - 2)) = D2 q
    rw [if_neg (by omega), if_neg (by omega), if_neg (by omega), Nat.add_sub_cancel]
  have G0 : ∀ q g, q ≤ x → ¬ G' q g := fun q g h => by
    show ¬ (if q ≤ x then False else if q ≤ y then G1 (q - 1) g else if q = y + 1 then False else G2 (q - 2) g)
    rw [if_pos h]; exact fun x => x
  have G1' : ∀ q g, x ≤ q → q < y → (G' (q + 1) g ↔ G1 q g) := fun q g h h' => by
    show (if q + 1 ≤ x then False else if q + 1 ≤ y then G1 (q + 1 - 1) g else if q + 1 = y + 1 then False else G2 (q + 1 - 2) g) ↔ G1 q g
    rw [if_neg (by omega), if_pos (by omega), Nat.add_sub_cancel]
  have Gy : ∀ g, ¬ G' (y + 1) g := fun g => by
    show ¬ (if y + 1 ≤ x then False else if y + 1 ≤ y then G1 (y + 1 - 1) g else if y + 1 = y + 1 then False else G2 (y + 1 - 2) g)
    rw [if_neg (by omega), if_neg (by omega), if_pos rfl]; exact fun x => x
  have G2' : ∀ q g, y ≤ q → (G' (q + 2) g ↔ G2 q g) := fun q g h => by
    show (if q + 2 ≤ x then False else if q + 2 ≤ y then G1 (q + 2 - 1) g else if q + 2 = y + 1 then False else G2 (q + 2 - 2) g) ↔ G2 q g
    rw [if_neg (by omega), if_neg (by omega), if_neg (by omega), Nat.add_sub_cancel]
  have Gx1 : ∀ g, ¬ G' (x + 1) g := fun g => by
    by_cases e : x < y
    · rw [G1' x g (Nat.le_refl _) e]; exact p2 g
    · rw [show x = y by omega]; exact Gy g
  refine ⟨D', G', by rw [D2' L hyL]; exact q1, fun g => G0 x g (Nat.le_refl _), fun g => by rw [G2' L g hyL]; exact q3 g, fun p hx hL => ?_⟩
  rcases (show p = x ∨ (x < p ∧ p ≤ y) ∨ p = y + 1 ∨ y + 2 ≤ p by omega) with e | e | e | e
  · rw [e]
    refine ⟨by rw [D0 x (Nat.le_refl _)]; omega, Or.inr (Or.inl ⟨c2, ⟨x + 1, by rw [f2]; exact nI_1 x, by omega, by omega, by rw [D0 x (Nat.le_refl _)]; omega, fun g hg => absurd hg (Gx1 g)⟩, y + 2, by rw [s2, nI_add, show x + (y - x + 2) = y + 2 by omega], by omega, by omega, by rw [D0 x (Nat.le_refl _)]; omega, fun g hg => absurd ((G2' y g (Nat.le_refl _)).mp hg) (q2 g)⟩)⟩
  · obtain ⟨p0, rfl⟩ : ∃ p0, p = p0 + 1 := ⟨p - 1, by omega⟩
    obtain ⟨i1, i2⟩ := p4 p0 (by omega) (by omega)
    refine ⟨by rw [D1' p0 (by omega) (by omega)]; exact i1, rc_ok_emb (E := fun _ => False) (A := 0) (B := 1) (d := 0) i2 (by omega) (by omega) rfl (by omega) (by omega) (by omega) (c3 p0 (by omega) (by omega)) (f3 p0 (by omega) (by omega)) (s3 p0 (by omega) (by omega)) (fun q q' h6 h5 e' => ?_) (by rw [D1' p0 (by omega) (by omega)]; omega) (fun q q' h6 h5 e' g hg => ?_) (fun g hg => ?_)⟩
    · rw [show q' = q + 1 by omega]
      by_cases e4 : q < y
      · rw [D1' q h6 e4]; omega
      · rw [show q = y by omega, p1]; omega
    · rw [show q' = q + 1 by omega] at hg
      by_cases e4 : q < y
      · exact Or.inl ((G1' q g h6 e4).mp hg)
      · rw [show q = y by omega] at hg; exact absurd hg (Gy g)
    · exact (G1' p0 g (by omega) (by omega)).mpr (hg.elim (fun x => x) (fun x => x.elim))
  · rw [e]
    refine ⟨by rw [Dy]; omega, Or.inr (Or.inr (Or.inr (Or.inl ⟨c4, L + 2, by rw [f4, nI_add, show y + 1 + (L - y + 1) = L + 2 by omega], by omega, by omega, by rw [Dy]; omega, fun g hg => absurd ((G2' L g hyL).mp hg) (q3 g)⟩)))⟩
  · obtain ⟨p0, rfl⟩ : ∃ p0, p = p0 + 2 := ⟨p - 2, by omega⟩
    obtain ⟨i1, i2⟩ := q4 p0 (by omega) (by omega)
    refine ⟨by rw [D2' p0 (by omega)]; exact i1, rc_ok_emb (E := fun _ => False) (A := 0) (B := 2) (d := 0) i2 (by omega) (by omega) rfl (by omega) (by omega) (by omega) (c5 p0 (by omega) (by omega)) (f5 p0 (by omega) (by omega)) (s5 p0 (by omega) (by omega)) (fun q q' h6 h5 e' => ?_) (by rw [D2' p0 (by omega)]; omega) (fun q q' h6 h5 e' g hg => ?_) (fun g hg => ?_)⟩
    · rw [show q' = q + 2 by omega, D2' q h6]; omega
    · rw [show q' = q + 2 by omega] at hg
      exact Or.inl ((G2' q g h6).mp hg)
    · exact (G2' p0 g (by omega)).mpr (hg.elim (fun x => x) (fun x => x.elim))
/-- a repetition -/
theorem rc_pc_star {c f s c' f' s' : Nat → Int32} {x L d : Nat} {k v w : Int32} (hxL : x ≤ L) (hk : k = 5 ∨ k = 6) (h : rc_pc c f s x L d) (hc : rc_A2 c c' x L L k 7) (hf : rc_A2 f f' x L L 1 w) (hw : nI (L + 1) + w = nI x) (hs : rc_A2 s s' x L L (nI (L - x + 2)) v) : rc_pc c' f' s' x (L + 2) (d + 1) := by
  obtain ⟨D, G, p1, p2, p3, p4⟩ := h
  obtain ⟨_, c2, c3, c4, _⟩ := hc
  obtain ⟨_, f2, f3, f4, _⟩ := hf
  obtain ⟨_, s2, s3, s4, _⟩ := hs
  let D' : Nat → Nat := fun q => if q ≤ x then 0 else if q ≤ L + 1 then D (q - 1) + 1 else 0
  let G' : Nat → Nat → Prop := fun q g => if q ≤ x then False else if q ≤ L + 1 then G (q - 1) g else False
  have D0 : D' x = 0 := if_pos (Nat.le_refl _)
  have D1 : ∀ q, x ≤ q → q ≤ L → D' (q + 1) = D q + 1 := fun q h h' => by
    show (if q + 1 ≤ x then 0 else if q + 1 ≤ L + 1 then D (q + 1 - 1) + 1 else 0) = D q + 1
    rw [if_neg (by omega), if_pos (by omega), Nat.add_sub_cancel]
  have De : D' (L + 2) = 0 := by
    show (if L + 2 ≤ x then 0 else if L + 2 ≤ L + 1 then D (L + 2 - 1) + 1 else 0) = 0
    rw [if_neg (by omega), if_neg (by omega)]
  have G0 : ∀ g, ¬ G' x g := fun g => by
    show ¬ (if x ≤ x then False else if x ≤ L + 1 then G (x - 1) g else False)
    rw [if_pos (Nat.le_refl _)]; exact fun x => x
  have G1 : ∀ q g, x ≤ q → q ≤ L → (G' (q + 1) g ↔ G q g) := fun q g h h' => by
    show (if q + 1 ≤ x then False else if q + 1 ≤ L + 1 then G (q + 1 - 1) g else False) ↔ G q g
    rw [if_neg (by omega), if_pos (by omega), Nat.add_sub_cancel]
  have Ge : ∀ g, ¬ G' (L + 2) g := fun g => by
    show ¬ (if L + 2 ≤ x then False else if L + 2 ≤ L + 1 then G (L + 2 - 1) g else False)
    rw [if_neg (by omega), if_neg (by omega)]; exact fun x => x
  refine ⟨D', G', De, G0, Ge, fun p hx hL => ?_⟩
  rcases (show p = x ∨ (x < p ∧ p ≤ L) ∨ p = L + 1 by omega) with e | e | e
  · rw [e]
    refine ⟨by rw [D0]; omega, Or.inr (Or.inr (Or.inl ⟨by rw [c2]; exact hk, ⟨x + 1, by rw [f2]; exact nI_1 x, by omega, by omega, by rw [D0, D1 x (Nat.le_refl _) hxL]; omega, fun g hg => absurd ((G1 x g (Nat.le_refl _) hxL).mp hg) (p2 g)⟩, L + 2, by rw [s2, nI_add, show x + (L - x + 2) = L + 2 by omega], by omega, by omega, by rw [D0]; omega, fun g hg => absurd hg (Ge g)⟩))⟩
  · obtain ⟨p0, rfl⟩ : ∃ p0, p = p0 + 1 := ⟨p - 1, by omega⟩
    obtain ⟨i1, i2⟩ := p4 p0 (by omega) (by omega)
    refine ⟨by rw [D1 p0 (by omega) (by omega)]; omega, rc_ok_emb (E := fun _ => False) (A := 0) (B := 1) (d := 1) i2 (by omega) (by omega) rfl (by omega) (by omega) (by omega) (c3 p0 (by omega) (by omega)) (f3 p0 (by omega) (by omega)) (s3 p0 (by omega) (by omega)) (fun q q' h6 h5 e' => ?_) (by rw [D1 p0 (by omega) (by omega)]; omega) (fun q q' h6 h5 e' g hg => ?_) (fun g hg => ?_)⟩
    · rw [show q' = q + 1 by omega, D1 q h6 h5]; omega
    · rw [show q' = q + 1 by omega] at hg
      exact Or.inl ((G1 q g h6 h5).mp hg)
    · exact (G1 p0 g (by omega) (by omega)).mpr (hg.elim (fun x => x) (fun x => x.elim))
  · rw [e]
    refine ⟨by rw [D1 L hxL (Nat.le_refl _), p1]; omega, Or.inr (Or.inr (Or.inr (Or.inr (Or.inl ⟨c4, x, by rw [f4]; exact hw, by omega, by omega, fun g hg => absurd hg (G0 g)⟩))))⟩
/-- a group -/
theorem rc_pc_group {c f s c' f' s' : Nat → Int32} {x L d g0 : Nat} {v w : Int32} (hxL : x ≤ L) (hg0 : g0 < 3) (h : rc_pc c f s x L d) (hc : rc_A2 c c' x L L 3 3) (hf : rc_A2 f f' x L L (nI (3 + g0)) (nI g0)) (hs : rc_A2 s s' x L L w v) : rc_pc c' f' s' x (L + 2) d := by
  obtain ⟨D, G, p1, p2, p3, p4⟩ := h
  obtain ⟨_, c2, c3, c4, _⟩ := hc
  obtain ⟨_, f2, f3, f4, _⟩ := hf
  obtain ⟨_, s2, s3, s4, _⟩ := hs
  let D' : Nat → Nat := fun q => if q ≤ x then 0 else if q ≤ L + 1 then D (q - 1) else 0
  let G' : Nat → Nat → Prop := fun q g => if q ≤ x then False else if q ≤ L + 1 then (G (q - 1) g ∨ g = g0) else False
  have D0 : D' x = 0 := if_pos (Nat.le_refl _)
  have D1 : ∀ q, x ≤ q → q ≤ L → D' (q + 1) = D q := fun q h h' => by
    show (if q + 1 ≤ x then 0 else if q + 1 ≤ L + 1 then D (q + 1 - 1) else 0) = D q
    rw [if_neg (by omega), if_pos (by omega), Nat.add_sub_cancel]
  have De : D' (L + 2) = 0 := by
    show (if L + 2 ≤ x then 0 else if L + 2 ≤ L + 1 then D (L + 2 - 1) else 0) = 0
    rw [if_neg (by omega), if_neg (by omega)]
  have G0 : ∀ g, ¬ G' x g := fun g => by
    show ¬ (if x ≤ x then False else if x ≤ L + 1 then (G (x - 1) g ∨ g = g0) else False)
    rw [if_pos (Nat.le_refl _)]; exact fun x => x
  have G1 : ∀ q g, x ≤ q → q ≤ L → (G' (q + 1) g ↔ (G q g ∨ g = g0)) := fun q g h h' => by
    show (if q + 1 ≤ x then False else if q + 1 ≤ L + 1 then (G (q + 1 - 1) g ∨ g = g0) else False) ↔ (G q g ∨ g = g0)
    rw [if_neg (by omega), if_pos (by omega), Nat.add_sub_cancel]
  have Ge : ∀ g, ¬ G' (L + 2) g := fun g => by
    show ¬ (if L + 2 ≤ x then False else if L + 2 ≤ L + 1 then (G (L + 2 - 1) g ∨ g = g0) else False)
    rw [if_neg (by omega), if_neg (by omega)]; exact fun x => x
  refine ⟨D', G', De, G0, Ge, fun p hx hL => ?_⟩
  rcases (show p = x ∨ (x < p ∧ p ≤ L) ∨ p = L + 1 by omega) with e | e | e
  · rw [e]
    refine ⟨by rw [D0]; omega, Or.inr (Or.inr (Or.inr (Or.inr (Or.inr ⟨c2, by omega, by rw [D0]; omega, 3 + g0, by omega, f2, fun hz => absurd hz (by omega), fun _ g hg => ?_⟩))))⟩
    rcases (G1 x g (Nat.le_refl _) hxL).mp hg with r | r
    · exact absurd r (p2 g)
    · exact Or.inl (by omega)
  · obtain ⟨p0, rfl⟩ : ∃ p0, p = p0 + 1 := ⟨p - 1, by omega⟩
    obtain ⟨i1, i2⟩ := p4 p0 (by omega) (by omega)
    refine ⟨by rw [D1 p0 (by omega) (by omega)]; omega, rc_ok_emb (E := fun g => g = g0) (A := 0) (B := 1) (d := 0) i2 (by omega) (by omega) rfl (by omega) (by omega) (by omega) (c3 p0 (by omega) (by omega)) (f3 p0 (by omega) (by omega)) (s3 p0 (by omega) (by omega)) (fun q q' h6 h5 e' => ?_) (by rw [D1 p0 (by omega) (by omega)]; omega) (fun q q' h6 h5 e' g hg => ?_) (fun g hg => ?_)⟩
    · rw [show q' = q + 1 by omega, D1 q h6 h5]; omega
    · rw [show q' = q + 1 by omega] at hg
      exact (G1 q g h6 h5).mp hg
    · exact (G1 p0 g (by omega) (by omega)).mpr hg
  · rw [e]
    refine ⟨by rw [D1 L hxL (Nat.le_refl _), p1]; omega, Or.inr (Or.inr (Or.inr (Or.inr (Or.inr ⟨c4, by omega, by rw [D1 L hxL (Nat.le_refl _), p1]; omega, g0, by omega, f4, fun _ => ⟨(G1 L g0 hxL (Nat.le_refl _)).mpr (Or.inr rfl), fun g hg => absurd hg (Ge g)⟩, fun hz => absurd hz (by omega)⟩))))⟩
/-- a piece, moved to the front and ended, is a program -/
theorem rc_pc_WF {c f s c' f' s' : Nat → Int32} {x L : Nat} (hxL : x ≤ L) (hL : L ≤ 32) (h : rc_pc c f s x L 16) (hc : ∀ j, j < L - x → c' j = c (x + j) ∧ f' j = f (x + j) ∧ s' j = s (x + j)) (he : c' (L - x) = 4) : ∃ (D : Nat → Nat) (G : Nat → Nat → Prop), rc_WF c' f' s' (L - x + 1) D G := by
  obtain ⟨D, G, p1, p2, p3, p4⟩ := h
  refine ⟨fun q => D (x + q), fun q g => G (x + q) g, by omega, by omega, fun p hp => ?_, fun g => p2 g, fun p hp => ?_⟩
  · show D (x + p) ≤ 16
    by_cases e : x + p < L
    · exact (p4 (x + p) (by omega) e).1
    · rw [show x + p = L by omega, p1]; omega
  · by_cases e : p = L - x
    · rw [e]; exact Or.inl he
    · obtain ⟨i1, i2⟩ := p4 (x + p) (by omega) (by omega)
      obtain ⟨c1, c2, c3⟩ := hc p (by omega)
      refine Or.inr (rc_ok_emb (E := fun _ => False) (A := x) (B := 0) (d := 0) i2 (by omega) (by omega) (by omega) (by omega) (by omega) (by omega) c1 c2 c3 (fun q q' h6 h5 e' => ?_) (Nat.le_refl _) (fun q q' h6 h5 e' g hg => ?_) (fun g hg => ?_))
      · show D q + 0 ≤ D (x + q')
        rw [show x + q' = q by omega]; omega
      · have hg' : G (x + q') g := hg
        rw [show x + q' = q by omega] at hg'
        exact Or.inl hg'
      · exact hg.elim (fun x => x) (fun x => x.elim)
end
section
/-! walks: making patterns -/
def rc_PS (hN mN lN : Nat) (a1 c f s : Nat → Int32) : Prop := hN ≤ 6 ∧ hN ≤ mN ∧ mN ≤ 16 ∧ lN ≤ 2 * mN ∧ ∃ b : Nat → Nat, b hN = lN ∧ ∀ k, k < hN → a1 k = nI (b k) ∧ b k ≤ b (k + 1) ∧ rc_pc c f s (b k) (b (k + 1)) mN
theorem rc_b_le {b : Nat → Nat} {h : Nat} (hb : ∀ k, k < h → b k ≤ b (k + 1)) : ∀ d k, k + d = h → b k ≤ b h := by
  intro d
  induction d with
  | zero => intro k e; rw [← e]; exact Nat.le_refl _
  | succ d ih => intro k e; exact Nat.le_trans (hb k (by omega)) (ih (k + 1) (by omega))
/-- moved up by one from L down to K -/
def rc_mv (K L : Nat) (a s : Nat → Int32) : Prop := (∀ j, j < K → s j = a j) ∧ ∀ j, K ≤ j → j < L → s (j + 1) = a j
theorem rc_mv_s {K L K1 K2 : Nat} {a s : Nat → Int32} (h : rc_mv (K + 1) L a s) (h1 : K1 = K + 1) (h2 : K2 = K) : rc_mv K L a (upd s K1 (s K2)) := by
  rw [h1, h2]
  refine ⟨fun j hj => ?_, fun j hj hL => ?_⟩
  · rw [pk_un (by omega)]; exact h.1 j (by omega)
  · by_cases e : j = K
    · rw [e, pk_us]; exact h.1 K (by omega)
    · rw [pk_un (by omega)]; exact h.2 j (by omega) hL
theorem rc_pred_lt {x : Nat} (h : x < 2 ^ 20) : nI x - 1 < nI x := by
  rw [Int32.lt_iff_toInt_lt, show (1 : Int32) = nI 1 from rfl, pk_sub_toInt (by omega) (by omega), nI_toInt (by omega)]
  omega
theorem rc_m1 (x : Int32) : x + (-1) = x - 1 := by grind
theorem rc_w7 {post : St1 → Prop} {h m z n ct nc wt fe : Int32} {a1 a2 a6 a7 a8 a9 a10 a11 a12 a13 a14 a15 a16 a17 a18 a19 : Nat → Int32} {x L : Nat} {a3 a4 a5 : Nat → Int32} (hL : L < 63)
    (H : ∀ b3 b4 b5 : Nat → Int32, rc_mv x L a3 b3 → rc_mv x L a4 b4 → rc_mv x L a5 b5 → post (h, m, nI (L + 1), z, n, ct, nc, wt, fe, a1, a2, b3, b4, b5, a6, a7, a8, a9, a10, a11, a12, a13, a14, a15, a16, a17, a18, a19)) : ∀ (d : Nat) (b3 b4 b5 : Nat → Int32), x + d ≤ L → rc_mv (x + d) L a3 b3 → rc_mv (x + d) L a4 b4 → rc_mv (x + d) L a5 b5 → wX_open_7 post (nI x) 1 h m (nI L) z n ct nc wt fe (d + 1) (nI (x + d) - 1) a1 a2 b3 b4 b5 a6 a7 a8 a9 a10 a11 a12 a13 a14 a15 a16 a17 a18 a19 := by
  intro d
  induction d with
  | zero =>
    intro b3 b4 b5 hd h3 h4 h5
    exact br_t (rc_pred_lt (by omega)) (nm_r (nI_1 L) (H b3 b4 b5 h3 h4 h5))
  | succ d ih =>
    intro b3 b4 b5 hd h3 h4 h5
    have e : nI (x + (d + 1)) - 1 = nI (x + d) := nI_pred (x + d)
    rw [e]
    have c1 : (nI (x + d)).toNatClampNeg = x + d := nI_clamp (by omega)
    have c2 : (nI (x + d) + 1).toNatClampNeg = x + d + 1 := by rw [nI_1, nI_clamp (by omega)]
    refine br_f (nI_nlt (by omega) (by omega)) ?_
    refine And.intro (pk_in (x + d) 64 (by omega)) (And.intro (pk_in (x + d + 1) 64 (by omega) (nI_1 _)) (nm_e ?_))
    refine And.intro (pk_in (x + d) 64 (by omega)) (And.intro (pk_in (x + d + 1) 64 (by omega) (nI_1 _)) (nm_e ?_))
    refine And.intro (pk_in (x + d) 64 (by omega)) (And.intro (pk_in (x + d + 1) 64 (by omega) (nI_1 _)) (nm_e ?_))
    exact nm_r (rc_m1 _) (ih _ _ _ (by omega) (rc_mv_s h3 c2 c1) (rc_mv_s h4 c2 c1) (rc_mv_s h5 c2 c1))
theorem rc_wopen {post : St1 → Prop} {h m z n ct nc wt fe : Int32} {a1 a2 a3 a4 a5 a6 a7 a8 a9 a10 a11 a12 a13 a14 a15 a16 a17 a18 a19 : Nat → Int32} {x L : Nat} (hx : x ≤ L) (hL : L < 63)
    (H : ∀ b3 b4 b5 : Nat → Int32, rc_mv x L a3 b3 → rc_mv x L a4 b4 → rc_mv x L a5 b5 → post (h, m, nI (L + 1), z, n, ct, nc, wt, fe, a1, a2, b3, b4, b5, a6, a7, a8, a9, a10, a11, a12, a13, a14, a15, a16, a17, a18, a19)) : wpX_open post (h, m, nI L, z, n, ct, nc, wt, fe, a1, a2, a3, a4, a5, a6, a7, a8, a9, a10, a11, a12, a13, a14, a15, a16, a17, a18, a19) (nI x) 1 := by
  have t : ∀ a : Nat → Int32, rc_mv (x + (L - x)) L a a := fun a => ⟨fun _ _ => rfl, fun j h1 h2 => absurd h1 (by omega)⟩
  have key := rc_w7 (post := post) (z := z) (n := n) hL H (L - x) a3 a4 a5 (by omega) (t a3) (t a4) (t a5)
  rw [show x + (L - x) = L by omega] at key
  exact nm_e (Exists.intro _ key)
theorem rc_wput {post : St1 → Prop} {h m l z n ct nc wt fe : Int32} {a1 a2 a3 a4 a5 a6 a7 a8 a9 a10 a11 a12 a13 a14 a15 a16 a17 a18 a19 : Nat → Int32} {x : Nat} {p1 p2 p3 : Int32} (hx : x < 64) (H : post (h, m, l, z, n, ct, nc, wt, fe, a1, a2, upd a3 x p1, upd a4 x p2, upd a5 x p3, a6, a7, a8, a9, a10, a11, a12, a13, a14, a15, a16, a17, a18, a19)) : wpX_put post (h, m, l, z, n, ct, nc, wt, fe, a1, a2, a3, a4, a5, a6, a7, a8, a9, a10, a11, a12, a13, a14, a15, a16, a17, a18, a19) (nI x) p1 p2 p3 := by
  have c1 : (nI x).toNatClampNeg = x := nI_clamp (by omega)
  refine And.intro (pk_in x 64 hx) (nm_r (by rw [c1]) (And.intro (pk_in x 64 hx) (nm_r (by rw [c1]) (And.intro (pk_in x 64 hx) (nm_r (by rw [c1]) H)))))
theorem rc_wemit {post : St1 → Prop} {h m z n ct nc wt fe : Int32} {a1 a2 a3 a4 a5 a6 a7 a8 a9 a10 a11 a12 a13 a14 a15 a16 a17 a18 a19 : Nat → Int32} {x : Nat} {p1 p2 p3 : Int32} (hx : x < 64) (H : post (h, m, nI (x + 1), z, n, ct, nc, wt, fe, a1, a2, upd a3 x p1, upd a4 x p2, upd a5 x p3, a6, a7, a8, a9, a10, a11, a12, a13, a14, a15, a16, a17, a18, a19)) : wpX_emit post (h, m, nI x, z, n, ct, nc, wt, fe, a1, a2, a3, a4, a5, a6, a7, a8, a9, a10, a11, a12, a13, a14, a15, a16, a17, a18, a19) p1 p2 p3 := by
  have c1 : (nI x).toNatClampNeg = x := nI_clamp (by omega)
  refine And.intro (pk_in x 64 hx) (nm_r (by rw [c1]) (And.intro (pk_in x 64 hx) (nm_r (by rw [c1]) (And.intro (pk_in x 64 hx) (nm_r (by rw [c1]) (nm_r (nI_1 x) H))))))
theorem rc_wref {post : Int32 → Prop} {l z n ct nc wt fe : Int32} {a1 a2 a3 a4 a5 a6 a7 a8 a9 a10 a11 a12 a13 a14 a15 a16 a17 a18 a19 : Nat → Int32} {hN mN k : Nat} (hh : hN ≤ 6) (hm : mN ≤ 16) (hk : k ≤ 2) (H0 : mN < 16 → k ≤ hN → post 0) (H1 : post (-2)) (H2 : post (-3)) : wpX_refused post (nI hN, nI mN, l, z, n, ct, nc, wt, fe, a1, a2, a3, a4, a5, a6, a7, a8, a9, a10, a11, a12, a13, a14, a15, a16, a17, a18, a19) (nI k) :=
  pk_eq mN 16 (fun _ => H1) (fun e => pk_le k hN (fun q => H0 (by omega) q) (fun _ => H2))
/-- two cells put in -/
theorem rc_A2_two {a s1 s3 : Nat → Int32} {x y L : Nat} {u v : Int32} (hxy : x ≤ y) (h1 : rc_mv y L a s1) (h3 : rc_mv x (L + 1) (upd s1 y v) s3) (hyL : y ≤ L) : rc_A2 a (upd s3 x u) x y L u v := by
  refine ⟨fun j hj => ?_, pk_us, fun j hx hy => ?_, ?_, fun j hy hL => ?_⟩
  · rw [pk_un (by omega), h3.1 j hj, pk_un (by omega), h1.1 j (by omega)]
  · rw [pk_un (by omega), h3.2 j hx (by omega), pk_un (by omega), h1.1 j hy]
  · rw [pk_un (by omega), h3.2 y hxy (by omega), pk_us]
  · rw [pk_un (by omega), show j + 2 = (j + 1) + 1 from rfl, h3.2 (j + 1) (by omega) (by omega), pk_un (by omega), h1.2 j hy hL]
/-- one put in, one behind -/
theorem rc_A2_one {a s : Nat → Int32} {x L : Nat} {u v : Int32} (hxL : x ≤ L) (h : rc_mv x L a s) : rc_A2 a (upd (upd s x u) (L + 1) v) x L L u v := by
  refine ⟨fun j hj => ?_, ?_, fun j hx hy => ?_, pk_us, fun j hy hL => absurd hy (by omega)⟩
  · rw [pk_un (by omega), pk_un (by omega), h.1 j hj]
  · rw [pk_un (by omega), pk_us]
  · rw [pk_un (by omega), pk_un (by omega), h.2 j hx hy]
/-- what a making call leaves: it succeeded and one step more was made, or nothing was -/
def rc_MP (post : Int32 → St1 → Prop) (mN : Nat) (z n ct nc wt fe : Int32) (a6 a7 a8 a9 a10 a11 a12 a13 a14 a15 a16 a17 a18 a19 : Nat → Int32) : Prop :=
  ∀ (r : Int32) (hN' mN' lN' : Nat) (a1 a2 a3 a4 a5 : Nat → Int32), rc_PS hN' mN' lN' a1 a3 a4 a5 → ((0 < r ∧ mN' = mN + 1) ∨ (¬ 0 < r ∧ mN' = mN)) → post r (nI hN', nI mN', nI lN', z, n, ct, nc, wt, fe, a1, a2, a3, a4, a5, a6, a7, a8, a9, a10, a11, a12, a13, a14, a15, a16, a17, a18, a19)
/-- the top piece, and what may take its place -/
theorem rc_PS_top {hN mN lN : Nat} {a1 a3 a4 a5 : Nat → Int32} (hP : rc_PS hN mN lN a1 a3 a4 a5) (hh : 0 < hN) : ∃ x, a1 (hN - 1) = nI x ∧ x ≤ lN ∧ rc_pc a3 a4 a5 x lN mN ∧
    (mN < 16 → ∀ (L' : Nat) (b3 b4 b5 : Nat → Int32), L' ≤ lN + 2 → x ≤ L' → rc_pc b3 b4 b5 x L' (mN + 1) → (∀ j, j < x → b3 j = a3 j ∧ b4 j = a4 j ∧ b5 j = a5 j) → rc_PS hN (mN + 1) L' a1 b3 b4 b5) := by
  obtain ⟨p1, p2, p3, p4, b, b1, b2⟩ := hP
  obtain ⟨t1, t2, t3⟩ := b2 (hN - 1) (by omega)
  rw [show hN - 1 + 1 = hN by omega, b1] at t2 t3
  refine ⟨b (hN - 1), t1, t2, t3, fun hm L' b3 b4 b5 hL' k1 k2 k3 => ⟨p1, by omega, by omega, by omega, fun k => if k < hN then b k else L', if_neg (by omega), fun k hk => ?_⟩⟩
  obtain ⟨i1, i2, i3⟩ := b2 k hk
  dsimp only
  rw [if_pos hk]
  by_cases e : k + 1 < hN
  · rw [if_pos e]
    have hle := rc_b_le (h := hN - 1) (fun k hk => (b2 k (by omega)).2.1) (hN - 1 - (k + 1)) (k + 1) (by omega)
    exact ⟨i1, i2, rc_pc_mono i3 (by omega) (fun p q1 q2 => k3 p (by omega))⟩
  · have ek : k = hN - 1 := by omega
    rw [if_neg e, ek]
    exact ⟨t1, k1, k2⟩
/-- the two top pieces, and what may take their place -/
theorem rc_PS_two {hN mN lN : Nat} {a1 a3 a4 a5 : Nat → Int32} (hP : rc_PS hN mN lN a1 a3 a4 a5) (hm : mN < 16) (hh : 2 ≤ hN) : ∃ x y, a1 (hN - 2) = nI x ∧ a1 (hN - 1) = nI y ∧ x ≤ y ∧ y ≤ lN ∧ rc_pc a3 a4 a5 x y mN ∧ rc_pc a3 a4 a5 y lN mN ∧
    (∀ (L' : Nat) (b3 b4 b5 : Nat → Int32), L' ≤ lN + 2 → x ≤ L' → rc_pc b3 b4 b5 x L' (mN + 1) → (∀ j, j < x → b3 j = a3 j ∧ b4 j = a4 j ∧ b5 j = a5 j) → rc_PS (hN - 1) (mN + 1) L' a1 b3 b4 b5) := by
  obtain ⟨p1, p2, p3, p4, b, b1, b2⟩ := hP
  obtain ⟨t1, t2, t3⟩ := b2 (hN - 1) (by omega)
  obtain ⟨u1, u2, u3⟩ := b2 (hN - 2) (by omega)
  rw [show hN - 1 + 1 = hN by omega, b1] at t2 t3
  rw [show hN - 2 + 1 = hN - 1 by omega] at u2 u3
  refine ⟨b (hN - 2), b (hN - 1), u1, t1, u2, t2, u3, t3, fun L' b3 b4 b5 hL' k1 k2 k3 => ⟨by omega, by omega, by omega, by omega, fun k => if k < hN - 1 then b k else L', if_neg (by omega), fun k hk => ?_⟩⟩
  obtain ⟨i1, i2, i3⟩ := b2 k (by omega)
  dsimp only
  rw [if_pos hk]
  by_cases e : k + 1 < hN - 1
  · rw [if_pos e]
    have hle := rc_b_le (h := hN - 2) (fun k hk => (b2 k (by omega)).2.1) (hN - 2 - (k + 1)) (k + 1) (by omega)
    exact ⟨i1, i2, rc_pc_mono i3 (by omega) (fun p q1 q2 => k3 p (by omega))⟩
  · have ek : k = hN - 2 := by omega
    rw [if_neg e, ek]
    exact ⟨u1, k1, k2⟩
theorem rc_PS_leaf {hN mN lN L' : Nat} {a1 a3 a4 a5 b3 b4 b5 : Nat → Int32} (hP : rc_PS hN mN lN a1 a3 a4 a5) (hm : mN < 16) (hh : hN < 6) (hL : lN ≤ L') (hL' : L' ≤ lN + 1) (k2 : rc_pc b3 b4 b5 lN L' (mN + 1)) (k3 : ∀ j, j < lN → b3 j = a3 j ∧ b4 j = a4 j ∧ b5 j = a5 j) : rc_PS (hN + 1) (mN + 1) L' (upd a1 hN (nI lN)) b3 b4 b5 := by
  obtain ⟨p1, p2, p3, p4, b, b1, b2⟩ := hP
  refine ⟨by omega, by omega, by omega, by omega, fun k => if k ≤ hN then b k else L', if_neg (by omega), fun k hk => ?_⟩
  dsimp only
  rw [if_pos (show k ≤ hN by omega)]
  by_cases e : k < hN
  · obtain ⟨i1, i2, i3⟩ := b2 k e
    have hle := rc_b_le (h := hN) (fun k hk => (b2 k hk).2.1) (hN - (k + 1)) (k + 1) (by omega)
    rw [if_pos (by omega), pk_un (by omega)]
    exact ⟨i1, i2, rc_pc_mono i3 (by omega) (fun p q1 q2 => k3 p (by omega))⟩
  · rw [if_neg (by omega), show k = hN by omega, b1, pk_us]
    exact ⟨rfl, hL, k2⟩
theorem rc_no_r {mN : Nat} {r : Int32} (h : ¬ 0 < r) : (0 < r ∧ mN = mN + 1) ∨ (¬ 0 < r ∧ mN = mN) := Or.inr ⟨h, rfl⟩
theorem rc_yes_r {mN k : Nat} (h : 0 < k) (hk : k < 2 ^ 31) : (0 < nI k ∧ mN + 1 = mN + 1) ∨ (¬ 0 < nI k ∧ mN + 1 = mN) := Or.inl ⟨nI_lt (a := 0) h hk, rfl⟩
theorem rc_wleaf {post : Int32 → St1 → Prop} {z n ct nc wt fe : Int32} {a1 a2 a3 a4 a5 a6 a7 a8 a9 a10 a11 a12 a13 a14 a15 a16 a17 a18 a19 : Nat → Int32} {hN mN lN : Nat} {p0 p1 : Int32} (hP : rc_PS hN mN lN a1 a3 a4 a5) (H : rc_MP post mN z n ct nc wt fe a6 a7 a8 a9 a10 a11 a12 a13 a14 a15 a16 a17 a18 a19) : wpX_leaf post (nI hN, nI mN, nI lN, z, n, ct, nc, wt, fe, a1, a2, a3, a4, a5, a6, a7, a8, a9, a10, a11, a12, a13, a14, a15, a16, a17, a18, a19) p0 p1 := by
  have q1 := hP.1
  have q3 := hP.2.2.1
  have q4 := hP.2.2.2.1
  have c1 : (nI hN).toNatClampNeg = hN := nI_clamp (by omega)
  refine pk_eq mN 16 (fun _ => H _ _ _ _ _ _ _ _ _ hP (rc_no_r (by decide))) (fun em => pk_eq hN 6 (fun _ => H _ _ _ _ _ _ _ _ _ hP (rc_no_r (by decide))) (fun eh => And.intro (pk_in hN 6 (by omega)) (nm_r (by rw [c1]) (And.intro (pk_in hN 6 (by omega)) (nm_e (nm_r (nI_1 hN) (nm_r (nI_1 mN) ?_)))))))
  have rd : ∀ (v : Int32) (b2 : Nat → Int32), wX_leaf_85 post v 0 (nI (hN + 1)) (nI (mN + 1)) (nI lN) z n ct nc wt fe (upd a1 hN (nI lN)) b2 a3 a4 a5 a6 a7 a8 a9 a10 a11 a12 a13 a14 a15 a16 a17 a18 a19 := fun v b2 =>
    rc_wemit (by omega) (H _ _ _ _ _ _ _ _ _ (rc_PS_leaf hP (by omega) (by omega) (by omega) (by omega) (rc_pc_read pk_us) (fun j hj => ⟨pk_un (by omega), pk_un (by omega), pk_un (by omega)⟩)) (rc_yes_r (by omega) (by omega)))
  refine br_c (fun _ => br_c (fun _ => rd _ _) (fun _ => rd _ _)) (fun _ => br_c (fun _ => br_c (fun _ => rd _ _) (fun _ => rd _ _)) (fun _ => ?_))
  exact H _ _ _ _ _ _ _ _ _ (rc_PS_leaf hP (by omega) (by omega) (Nat.le_refl _) (by omega) (rc_pc_nil _ _ _ _ _) (fun j hj => ⟨rfl, rfl, rfl⟩)) (rc_yes_r (by omega) (by omega))
theorem rc_wcat {post : Int32 → St1 → Prop} {z n ct nc wt fe : Int32} {a1 a2 a3 a4 a5 a6 a7 a8 a9 a10 a11 a12 a13 a14 a15 a16 a17 a18 a19 : Nat → Int32} {hN mN lN : Nat} (hP : rc_PS hN mN lN a1 a3 a4 a5) (H : rc_MP post mN z n ct nc wt fe a6 a7 a8 a9 a10 a11 a12 a13 a14 a15 a16 a17 a18 a19) : wpX_cat post (nI hN, nI mN, nI lN, z, n, ct, nc, wt, fe, a1, a2, a3, a4, a5, a6, a7, a8, a9, a10, a11, a12, a13, a14, a15, a16, a17, a18, a19) := by
  have q1 := hP.1
  have q3 := hP.2.2.1
  unfold wpX_cat
  refine rc_wref (k := 2) q1 q3 (by omega) (fun hm hh => br_t (by decide) ?_) (br_f (by decide) (H _ _ _ _ _ _ _ _ _ hP (rc_no_r (by decide)))) (br_f (by decide) (H _ _ _ _ _ _ _ _ _ hP (rc_no_r (by decide))))
  have e1 : nI hN - 1 = nI (hN - 1) := pk_sub (b := 1) (by omega)
  have e2 : nI (hN - 1) - 1 = nI (hN - 2) := pk_sub (a := hN - 1) (b := 1) (by omega)
  obtain ⟨x, y, _, _, hxy, hyL, h1, h2, K⟩ := rc_PS_two hP hm hh
  refine nm_r e1 (And.intro (pk_in (hN - 2) 6 (by omega) e2) (And.intro (pk_in (hN - 1) 6 (by omega)) (And.intro (pk_in (hN - 2) 6 (by omega) e2) (nm_e (nm_r (nI_1 mN) ?_)))))
  exact H _ _ _ _ _ _ _ _ _ (K lN a3 a4 a5 (by omega) (by omega) (rc_pc_mono (rc_pc_cat hxy hyL h1 h2) (by omega) (fun _ _ _ => ⟨rfl, rfl, rfl⟩)) (fun _ _ => ⟨rfl, rfl, rfl⟩)) (rc_yes_r (by omega) (by omega))
theorem rc_walt {post : Int32 → St1 → Prop} {z n ct nc wt fe : Int32} {a1 a2 a3 a4 a5 a6 a7 a8 a9 a10 a11 a12 a13 a14 a15 a16 a17 a18 a19 : Nat → Int32} {hN mN lN : Nat} (hP : rc_PS hN mN lN a1 a3 a4 a5) (H : rc_MP post mN z n ct nc wt fe a6 a7 a8 a9 a10 a11 a12 a13 a14 a15 a16 a17 a18 a19) : wpX_alt post (nI hN, nI mN, nI lN, z, n, ct, nc, wt, fe, a1, a2, a3, a4, a5, a6, a7, a8, a9, a10, a11, a12, a13, a14, a15, a16, a17, a18, a19) := by
  have q1 := hP.1
  have q3 := hP.2.2.1
  have q4 := hP.2.2.2.1
  unfold wpX_alt
  refine rc_wref (k := 2) q1 q3 (by omega) (fun hm hh => br_t (by decide) ?_) (br_f (by decide) (H _ _ _ _ _ _ _ _ _ hP (rc_no_r (by decide)))) (br_f (by decide) (H _ _ _ _ _ _ _ _ _ hP (rc_no_r (by decide))))
  have e1 : nI hN - 1 = nI (hN - 1) := pk_sub (b := 1) (by omega)
  have e2 : nI hN - 2 = nI (hN - 2) := pk_sub (b := 2) (by omega)
  have e3 : nI (hN - 1) - 1 = nI (hN - 2) := pk_sub (a := hN - 1) (b := 1) (by omega)
  obtain ⟨x, y, u1, t1, u2, t2, u3, t3, K⟩ := rc_PS_two hP hm hh
  refine And.intro (pk_in (hN - 2) 6 (by omega) e2) (nm_r (show a1 (nI hN - 2).toNatClampNeg = nI x by rw [e2, nI_clamp (by omega)]; exact u1) (And.intro (pk_in (hN - 1) 6 (by omega) e1) (nm_r (show a1 (nI hN - 1).toNatClampNeg = nI y by rw [e1, nI_clamp (by omega)]; exact t1) (nm_r (pk_sub u2) (nm_r (pk_sub t2) ?_)))))
  refine rc_wopen t2 (by omega) (fun c3 c4 c5 m3 m4 m5 => rc_wput (by omega) (rc_wopen (by omega) (by omega) (fun d3 d4 d5 n3 n4 n5 => rc_wput (by omega) (nm_r e1 ?_))))
  refine And.intro (pk_in (hN - 2) 6 (by omega) e3) (And.intro (pk_in (hN - 1) 6 (by omega)) (And.intro (pk_in (hN - 2) 6 (by omega) e3) (nm_e (nm_r (nI_1 mN) ?_))))
  have g3 := rc_A2_two (u := 1) u2 m3 n3 t2
  have g4 := rc_A2_two (u := 1) u2 m4 n4 t2
  have g5 := rc_A2_two (u := nI (y - x) + 2) u2 m5 n5 t2
  have f4 := g4
  rw [show nI (lN - y) + 1 = nI (lN - y + 1) from nI_1 _] at f4
  have f5 : rc_A2 a5 (upd d5 x (nI (y - x) + 2)) x y lN (nI (y - x + 2)) 0 := by
    rw [show nI (y - x + 2) = nI (y - x) + 2 from (nI_add _ 2).symm]
    exact g5
  exact H _ _ _ (lN + 1 + 1) _ _ _ _ _ (K (lN + 2) _ _ _ (by omega) (by omega) (rc_pc_mono (rc_pc_alt u2 t2 u3 t3 g3 f4 f5) (by omega) (fun _ _ _ => ⟨rfl, rfl, rfl⟩)) (fun j hj => ⟨g3.1 j hj, g4.1 j hj, g5.1 j hj⟩)) (rc_yes_r (by omega) (by omega))
theorem rc_w50 {post : Int32 → St1 → Prop} {z n ct nc wt fe : Int32} {a1 a2 a3 a4 a5 a6 a7 a8 a9 a10 a11 a12 a13 a14 a15 a16 a17 a18 a19 : Nat → Int32} {hN mN lN x : Nat} {k : Int32} {o3 o4 o5 : Nat → Int32} (hk : k = 5 ∨ k = 6) (hm : mN < 16) (hl : lN ≤ 30) (hh : 0 < hN) (hh6 : hN ≤ 6) (hx : x ≤ lN) (hpc : rc_pc o3 o4 o5 x lN mN) (K : ∀ (L' : Nat) (b3 b4 b5 : Nat → Int32), L' ≤ lN + 2 → x ≤ L' → rc_pc b3 b4 b5 x L' (mN + 1) → (∀ j, j < x → b3 j = o3 j ∧ b4 j = o4 j ∧ b5 j = o5 j) → rc_PS hN (mN + 1) L' a1 b3 b4 b5)
    (m3 : rc_mv x lN o3 a3) (m4 : rc_mv x lN o4 a4) (m5 : rc_mv x lN o5 a5) (H : rc_MP post mN z n ct nc wt fe a6 a7 a8 a9 a10 a11 a12 a13 a14 a15 a16 a17 a18 a19) : wX_repeat_50 post (nI (lN - x)) k (nI x) (nI hN) (nI mN) (nI (lN + 1)) z n ct nc wt fe a1 a2 a3 a4 a5 a6 a7 a8 a9 a10 a11 a12 a13 a14 a15 a16 a17 a18 a19 := by
  refine rc_wput (by omega) (rc_wemit (by omega) (nm_r (nI_1 mN) ?_))
  have g3 := rc_A2_one (u := k) (v := 7) hx m3
  have g4 := rc_A2_one (u := 1) (v := -nI (lN - x) - 1) hx m4
  have g5 := rc_A2_one (u := nI (lN - x) + 2) (v := 0) hx m5
  have f5 : rc_A2 o5 (upd (upd a5 x (nI (lN - x) + 2)) (lN + 1) 0) x lN lN (nI (lN - x + 2)) 0 := by
    rw [show nI (lN - x + 2) = nI (lN - x) + 2 from (nI_add _ 2).symm]
    exact g5
  have hw : nI (lN + 1) + (-nI (lN - x) - 1) = nI x := by
    rw [show nI (lN + 1) = nI (lN - x) + nI x + 1 from by rw [nI_add, nI_1, show lN - x + x = lN by omega]]
    generalize nI (lN - x) = P
    generalize nI x = Q
    grind
  exact H _ _ _ (lN + 2) _ _ _ _ _ (K (lN + 2) _ _ _ (by omega) (by omega) (rc_pc_star hx hk hpc g3 g4 hw f5) (fun j hj => ⟨g3.1 j hj, g4.1 j hj, g5.1 j hj⟩)) (rc_yes_r hh (by omega))
theorem rc_wrep {post : Int32 → St1 → Prop} {z n ct nc wt fe : Int32} {a1 a2 a3 a4 a5 a6 a7 a8 a9 a10 a11 a12 a13 a14 a15 a16 a17 a18 a19 : Nat → Int32} {hN mN lN : Nat} {p0 : Int32} (hP : rc_PS hN mN lN a1 a3 a4 a5) (H : rc_MP post mN z n ct nc wt fe a6 a7 a8 a9 a10 a11 a12 a13 a14 a15 a16 a17 a18 a19) : wpX_repeat post (nI hN, nI mN, nI lN, z, n, ct, nc, wt, fe, a1, a2, a3, a4, a5, a6, a7, a8, a9, a10, a11, a12, a13, a14, a15, a16, a17, a18, a19) p0 := by
  have q1 := hP.1
  have q3 := hP.2.2.1
  have q4 := hP.2.2.2.1
  unfold wpX_repeat
  refine rc_wref (k := 1) q1 q3 (by omega) (fun hm hh => br_t (by decide) ?_) (br_f (by decide) (H _ _ _ _ _ _ _ _ _ hP (rc_no_r (by decide)))) (br_f (by decide) (H _ _ _ _ _ _ _ _ _ hP (rc_no_r (by decide))))
  have e1 : nI hN - 1 = nI (hN - 1) := pk_sub (b := 1) (by omega)
  obtain ⟨x, t1, t2, t3, K⟩ := rc_PS_top hP (by omega)
  refine And.intro (pk_in (hN - 1) 6 (by omega) e1) (nm_r (show a1 (nI hN - 1).toNatClampNeg = nI x by rw [e1, nI_clamp (by omega)]; exact t1) (nm_r (pk_sub t2) ?_))
  refine rc_wopen t2 (by omega) (fun c3 c4 c5 m3 m4 m5 => br_c (fun _ => ?_) (fun _ => ?_))
  · exact rc_w50 (Or.inr rfl) hm (by omega) (by omega) q1 t2 t3 (K hm) m3 m4 m5 H
  · exact rc_w50 (Or.inl rfl) hm (by omega) (by omega) q1 t2 t3 (K hm) m3 m4 m5 H
theorem rc_wgroup {post : Int32 → St1 → Prop} {z n ct nc wt fe : Int32} {a1 a2 a3 a4 a5 a6 a7 a8 a9 a10 a11 a12 a13 a14 a15 a16 a17 a18 a19 : Nat → Int32} {hN mN lN : Nat} {p0 : Int32} (hP : rc_PS hN mN lN a1 a3 a4 a5) (H : rc_MP post mN z n ct nc wt fe a6 a7 a8 a9 a10 a11 a12 a13 a14 a15 a16 a17 a18 a19) : wpX_group post (nI hN, nI mN, nI lN, z, n, ct, nc, wt, fe, a1, a2, a3, a4, a5, a6, a7, a8, a9, a10, a11, a12, a13, a14, a15, a16, a17, a18, a19) p0 := by
  have q1 := hP.1
  have q3 := hP.2.2.1
  have q4 := hP.2.2.2.1
  refine br_c (fun _ => H _ _ _ _ _ _ _ _ _ hP (rc_no_r (by decide))) (fun g1 => br_c (fun g2 => ?_) (fun _ => H _ _ _ _ _ _ _ _ _ hP (rc_no_r (by decide))))
  obtain ⟨g0, hg0, rfl⟩ := nI_of2 (M := 2) (n := 2) rfl g1 g2
  refine rc_wref (k := 1) q1 q3 (by omega) (fun hm hh => br_t (by decide) ?_) (br_f (by decide) (H _ _ _ _ _ _ _ _ _ hP (rc_no_r (by decide)))) (br_f (by decide) (H _ _ _ _ _ _ _ _ _ hP (rc_no_r (by decide))))
  have e1 : nI hN - 1 = nI (hN - 1) := pk_sub (b := 1) (by omega)
  obtain ⟨x, t1, t2, t3, K⟩ := rc_PS_top hP (by omega)
  refine And.intro (pk_in (hN - 1) 6 (by omega) e1) (br_c (fun _ => H _ _ _ _ _ _ _ _ _ hP (rc_no_r (by decide))) (fun _ => And.intro (pk_in (hN - 1) 6 (by omega) e1) (And.intro (pk_in (hN - 1) 6 (by omega) e1) (nm_e (And.intro (pk_in (hN - 1) 6 (by omega) e1) (nm_r (show a1 (nI hN - 1).toNatClampNeg = nI x by rw [e1, nI_clamp (by omega)]; exact t1) ?_))))))
  refine rc_wopen t2 (by omega) (fun c3 c4 c5 m3 m4 m5 => rc_wput (by omega) (rc_wemit (by omega) (nm_r (nI_1 mN) ?_)))
  have g3 := rc_A2_one (u := 3) (v := 3) t2 m3
  have g4 := rc_A2_one (u := 3 + nI g0) (v := nI g0) t2 m4
  have g5 := rc_A2_one (u := 0) (v := 0) t2 m5
  have f4 : rc_A2 a4 (upd (upd c4 x (3 + nI g0)) (lN + 1) (nI g0)) x lN lN (nI (3 + g0)) (nI g0) := by
    rw [show nI (3 + g0) = 3 + nI g0 from (nI_add 3 _).symm]
    exact g4
  exact H _ _ _ (lN + 2) _ _ _ _ _ (K hm (lN + 2) _ _ _ (by omega) (by omega) (rc_pc_mono (rc_pc_group t2 (by omega) t3 g3 f4 g5) (by omega) (fun _ _ _ => ⟨rfl, rfl, rfl⟩)) (fun j hj => ⟨g3.1 j hj, g4.1 j hj, g5.1 j hj⟩)) (rc_yes_r (by omega) (by omega))
/-- define's copying -/
theorem rc_w29 {post : Int32 → St1 → Prop} {n ct nc wt fe : Int32} {a1 a2 a3 a4 a5 a6 a7 a8 a9 a10 a11 a12 a13 a14 a15 a16 a17 a18 a19 : Nat → Int32} {hN mN lN x : Nat} (hx : x ≤ lN) (hL : lN ≤ 32)
    (H : ∀ b6 b7 b8 : Nat → Int32, (∀ j, j < lN - x → b6 j = a3 (x + j) ∧ b7 j = a4 (x + j) ∧ b8 j = a5 (x + j)) → b6 (lN - x) = 4 → post (nI hN) (0, 0, 0, nI (lN - x + 1), n, ct, nc, wt, fe, a1, a2, a3, a4, a5, b6, b7, b8, a9, a10, a11, a12, a13, a14, a15, a16, a17, a18, a19)) : ∃ fu, wX_define_29 post (nI hN) (nI mN) (nI lN) n ct nc wt fe fu (nI x) 0 a1 a2 a3 a4 a5 a6 a7 a8 a9 a10 a11 a12 a13 a14 a15 a16 a17 a18 a19 := by
  refine pk_loop (σ := (Nat → Int32) × (Nat → Int32) × (Nat → Int32)) (fun n0 i s => wX_define_29 post (nI hN) (nI mN) (nI lN) n ct nc wt fe n0 (nI (x + i)) (nI i) a1 a2 a3 a4 a5 s.1 s.2.1 s.2.2 a9 a10 a11 a12 a13 a14 a15 a16 a17 a18 a19) (fun i s => ∀ j, j < i → s.1 j = a3 (x + j) ∧ s.2.1 j = a4 (x + j) ∧ s.2.2 j = a5 (x + j)) (lN - x) 0 (a6, a7, a8) (by omega) (fun k hk => absurd hk (by omega)) ?_ ?_
  · intro n0 s hI
    have c1 : (nI (lN - x)).toNatClampNeg = lN - x := nI_clamp (by omega)
    refine pk_le lN (x + (lN - x)) (fun _ => And.intro (pk_in (lN - x) 64 (by omega)) (nm_r (by rw [c1]) (nm_r (nI_1 _) (H _ _ _ (fun j hj => ⟨?_, (hI j hj).2⟩) pk_us)))) (fun q => absurd q (by omega))
    rw [pk_un (by omega)]; exact (hI j hj).1
  · intro n0 i s hi hI hw
    obtain ⟨s6, s7, s8⟩ := s
    have c1 : (nI i).toNatClampNeg = i := nI_clamp (by omega)
    have c2 : (nI (x + i)).toNatClampNeg = x + i := nI_clamp (by omega)
    refine pk_le lN (x + i) (fun q => absurd q (by omega)) (fun _ => ?_)
    have ex : ∀ (a s : Nat → Int32), upd s (nI i).toNatClampNeg (a (nI (x + i)).toNatClampNeg) = upd s i (a (x + i)) := fun a s => by rw [c1, c2]
    refine And.intro (pk_in (x + i) 64 (by omega)) (And.intro (pk_in i 64 (by omega)) (nm_r (ex a3 s6) ?_))
    refine And.intro (pk_in (x + i) 64 (by omega)) (And.intro (pk_in i 64 (by omega)) (nm_r (ex a4 s7) ?_))
    refine And.intro (pk_in (x + i) 64 (by omega)) (And.intro (pk_in i 64 (by omega)) (nm_r (ex a5 s8) (nm_r (nI_1 i) (nm_r (nI_1 (x + i)) ?_))))
    have hS : ∀ j, j < i + 1 → upd s6 i (a3 (x + i)) j = a3 (x + j) ∧ upd s7 i (a4 (x + i)) j = a4 (x + j) ∧ upd s8 i (a5 (x + i)) j = a5 (x + j) := by
      intro j hj
      by_cases e : j = i
      · rw [e, pk_us, pk_us, pk_us]; exact ⟨rfl, rfl, rfl⟩
      · rw [pk_un e, pk_un e, pk_un e]; exact hI j (by omega)
    exact hw (upd s6 i (a3 (x + i)), upd s7 i (a4 (x + i)), upd s8 i (a5 (x + i))) hS
theorem rc_wdefine {post : Int32 → St1 → Prop} {z n ct nc wt fe : Int32} {a1 a2 a3 a4 a5 a6 a7 a8 a9 a10 a11 a12 a13 a14 a15 a16 a17 a18 a19 : Nat → Int32} {hN mN lN : Nat} (hP : rc_PS hN mN lN a1 a3 a4 a5) (H0 : post (-3) (nI hN, nI mN, nI lN, z, n, ct, nc, wt, fe, a1, a2, a3, a4, a5, a6, a7, a8, a9, a10, a11, a12, a13, a14, a15, a16, a17, a18, a19))
    (H : 0 < hN → ∀ (z : Int32) (sz : Nat) (D : Nat → Nat) (G : Nat → Nat → Prop) (a6 a7 a8 : Nat → Int32), rc_WF a6 a7 a8 sz D G → post (nI hN) (0, 0, 0, z, n, ct, nc, wt, fe, a1, a2, a3, a4, a5, a6, a7, a8, a9, a10, a11, a12, a13, a14, a15, a16, a17, a18, a19)) : wpX_define post (nI hN, nI mN, nI lN, z, n, ct, nc, wt, fe, a1, a2, a3, a4, a5, a6, a7, a8, a9, a10, a11, a12, a13, a14, a15, a16, a17, a18, a19) := by
  have q1 := hP.1
  have q3 := hP.2.2.1
  have q4 := hP.2.2.2.1
  refine pk_eq hN 0 (fun _ => H0) (fun e => ?_)
  have e1 : nI hN - 1 = nI (hN - 1) := pk_sub (b := 1) (by omega)
  obtain ⟨x, t1, t2, t3, _⟩ := rc_PS_top hP (by omega)
  refine And.intro (pk_in (hN - 1) 6 (by omega) e1) (nm_r (show a1 (nI hN - 1).toNatClampNeg = nI x by rw [e1, nI_clamp (by omega)]; exact t1) (rc_w29 t2 (by omega) (fun b6 b7 b8 h1 h2 => ?_)))
  obtain ⟨D, G, hw⟩ := rc_pc_WF t2 (by omega) (rc_pc_mono t3 q3 (fun _ _ _ => ⟨rfl, rfl, rfl⟩)) h1 h2
  exact H (by omega) _ _ D G b6 b7 b8 hw
theorem rc_PS_0 (a1 a3 a4 a5 : Nat → Int32) : rc_PS 0 0 0 a1 a3 a4 a5 := ⟨by omega, by omega, by omega, by omega, fun _ => 0, rfl, fun k hk => absurd hk (by omega)⟩
/-- a turn: what was made, what is in use, the text -/
theorem rc_wturn {post : Int32 → St1 → Prop} {z ct nc wt fe : Int32} {a1 a2 a3 a4 a5 a6 a7 a8 a9 a10 a11 a12 a13 a14 a15 a16 a17 a18 a19 : Nat → Int32} {hN mN lN nn sz o : Nat} {D : Nat → Nat} {G : Nat → Nat → Prop} {x : Int32} (hP : rc_PS hN mN lN a1 a3 a4 a5) (hnn : nn ≤ 10) (w : rc_WF a6 a7 a8 sz D G) (ho : o < 32)
    (H1 : ∀ (r : Int32) (hN' mN' lN' : Nat) (a1 a2 a3 a4 a5 : Nat → Int32), o < 19 → rc_PS hN' mN' lN' a1 a3 a4 a5 → ((0 < r ∧ mN' = mN + 1) ∨ (¬ 0 < r ∧ mN' = mN)) → post r (nI hN', nI mN', nI lN', z, nI nn, ct, nc, wt, fe, a1, a2, a3, a4, a5, a6, a7, a8, a9, a10, a11, a12, a13, a14, a15, a16, a17, a18, a19))
    (H2 : ∀ (r : Int32) (hN' mN' lN' : Nat) (z : Int32) (sz : Nat) (D : Nat → Nat) (G : Nat → Nat → Prop) (a6 a7 a8 : Nat → Int32), 19 ≤ o → o < 24 → rc_PS hN' mN' lN' a1 a3 a4 a5 → rc_WF a6 a7 a8 sz D G → ((0 < r ∧ mN' = 0) ∨ (¬ 0 < r ∧ mN' = mN)) → post r (nI hN', nI mN', nI lN', z, nI nn, ct, nc, wt, fe, a1, a2, a3, a4, a5, a6, a7, a8, a9, a10, a11, a12, a13, a14, a15, a16, a17, a18, a19))
    (H3 : ∀ (r : Int32) (nn : Nat) (a9 : Nat → Int32), nn ≤ 10 → 24 ≤ o → o ≠ 30 → post r (nI hN, nI mN, nI lN, z, nI nn, ct, nc, wt, fe, a1, a2, a3, a4, a5, a6, a7, a8, a9, a10, a11, a12, a13, a14, a15, a16, a17, a18, a19))
    (H4 : o = 30 → post 0 (nI 0, nI 0, nI 0, z, nI nn, ct, nc, wt, fe, a1, a2, a3, a4, a5, a6, a7, a8, a9, a10, a11, a12, a13, a14, a15, a16, a17, a18, a19)) : wpL_turn post (nI hN, nI mN, nI lN, z, nI nn, ct, nc, wt, fe, a1, a2, a3, a4, a5, a6, a7, a8, a9, a10, a11, a12, a13, a14, a15, a16, a17, a18, a19) (nI o) x := by
  have hm : ∀ {P : Int32 → Prop}, P (nI o) → ∀ v, v = nI o &&& 31 → P v := fun h => nm_r (by rw [pk_andN (by omega) 5 (by decide), Nat.mod_eq_of_lt (by omega)]) h
  have MP : o < 19 → rc_MP post mN z (nI nn) ct nc wt fe a6 a7 a8 a9 a10 a11 a12 a13 a14 a15 a16 a17 a18 a19 := fun h r hN' mN' lN' a1 a2 a3 a4 a5 i1 i2 => H1 r hN' mN' lN' a1 a2 a3 a4 a5 h i1 i2
  refine hm ?_
  refine pk_le 5 o (fun g => ?_) (fun g => ?_)
  rotate_left
  · have M := MP (by omega)
    refine br_c (fun _ => M _ _ _ _ _ _ _ _ _ hP (rc_no_r (by decide))) (fun g1 => br_c (fun g2 => ?_) (fun _ => M _ _ _ _ _ _ _ _ _ hP (rc_no_r (by decide))))
    exact rc_wleaf hP (fun r hN' mN' lN' a1 a2 a3 a4 a5 i1 i2 => M r hN' mN' lN' a1 a2 a3 a4 a5 i1 i2)
  refine pk_eq o 5 (fun g1 => ?_) (fun g1 => pk_eq o 6 (fun g2 => ?_) (fun g2 => pk_le 10 o (fun g3 => ?_) (fun g3 => ?_)))
  · exact rc_wleaf hP (fun r hN' mN' lN' a1 a2 a3 a4 a5 i1 i2 => MP (by omega) r hN' mN' lN' a1 a2 a3 a4 a5 i1 i2)
  · exact rc_wleaf hP (fun r hN' mN' lN' a1 a2 a3 a4 a5 i1 i2 => MP (by omega) r hN' mN' lN' a1 a2 a3 a4 a5 i1 i2)
  rotate_left
  · exact rc_wcat hP (fun r hN' mN' lN' a1 a2 a3 a4 a5 i1 i2 => MP (by omega) r hN' mN' lN' a1 a2 a3 a4 a5 i1 i2)
  refine pk_le 12 o (fun g4 => pk_le 14 o (fun g5 => pk_le 16 o (fun g6 => pk_le 19 o (fun g7 => pk_le 24 o (fun g8 => pk_le 30 o (fun g9 => pk_eq o 30 (fun g10 => ?_) (fun g10 => ?_)) (fun g9 => ?_)) (fun g8 => ?_)) (fun g7 => ?_)) (fun g6 => ?_)) (fun g5 => ?_)) (fun g4 => ?_)
  · exact H4 g10
  · exact H3 0 0 a9 (by omega) (by omega) g10
  · refine br_c (fun _ => H3 _ nn a9 hnn (by omega) (by omega)) (fun g10 => br_c (fun g11 => pk_eq nn 10 (fun _ => H3 _ nn a9 hnn (by omega) (by omega)) (fun g12 => And.intro (pk_in nn 10 (by omega)) (nm_e (nm_r (nI_1 nn) (H3 _ (nn + 1) _ (by omega) (by omega) (by omega)))))) (fun _ => H3 _ nn a9 hnn (by omega) (by omega)))
  · refine rc_wdefine hP (H2 _ hN mN lN z sz D G a6 a7 a8 (by omega) (by omega) hP w (Or.inr ⟨by decide, rfl⟩)) (fun hh z sz D G a6 a7 a8 w' => ?_)
    exact H2 _ 0 0 0 z sz D G a6 a7 a8 (by omega) (by omega) (rc_PS_0 _ _ _ _) w' (Or.inl ⟨nI_lt (a := 0) hh (by have := hP.1; omega), rfl⟩)
  · exact rc_wgroup hP (fun r hN' mN' lN' a1 a2 a3 a4 a5 i1 i2 => MP (by omega) r hN' mN' lN' a1 a2 a3 a4 a5 i1 i2)
  · exact rc_wrep hP (fun r hN' mN' lN' a1 a2 a3 a4 a5 i1 i2 => MP (by omega) r hN' mN' lN' a1 a2 a3 a4 a5 i1 i2)
  · exact rc_wrep hP (fun r hN' mN' lN' a1 a2 a3 a4 a5 i1 i2 => MP (by omega) r hN' mN' lN' a1 a2 a3 a4 a5 i1 i2)
  · exact rc_walt hP (fun r hN' mN' lN' a1 a2 a3 a4 a5 i1 i2 => MP (by omega) r hN' mN' lN' a1 a2 a3 a4 a5 i1 i2)
end
section
/-! walks: questions -/
theorem rc_find_off {c f s t : Nat → Int32} {n i : Nat} (h : n < i) : rc_find c f s t n i = none := by
  unfold rc_find
  rw [show n + 1 - i = 0 by omega]
  rfl
def rc_ev (v : Option (Nat × Nat × (Nat → Int32))) : Int32 := match v with
  | none => -4
  | some x => nI x.2.1
def rc_gv (v : Option (Nat × Nat × (Nat → Int32))) (g : Nat) : Int32 := match v with
  | none => -4
  | some x => x.2.2 g
/-- what a find from f on is like -/
def rc_FA (nn f : Nat) (v : Option (Nat × Nat × (Nat → Int32))) : Prop := ∀ i e nt, v = some (i, e, nt) → f ≤ i ∧ i ≤ e ∧ e ≤ nn ∧ ∀ g, g < 3 → nt g = -4 ∨ ∃ b d, i ≤ b ∧ b ≤ d ∧ d ≤ e ∧ nt g = nI (16 * b + d)
theorem rc_find_FA {c f s t : Nat → Int32} {D : Nat → Nat} {G : Nat → Nat → Prop} {sz n f0 : Nat} (w : rc_WF c f s sz D G) : rc_FA n f0 (rc_find c f s t n f0) := by
  intro i e nt h
  by_cases hf : f0 ≤ n
  · have h1 := rc_fi_An w (n + 1 - f0) f0 i e nt (by omega) h
    have h2 := rc_sr_An (t := t) (ac := -1) w (show i ≤ n + 1 by omega) e nt h1.2.2
    exact ⟨h1.1, h2.1, h2.2.1, h2.2.2⟩
  · rw [rc_find_off (by omega)] at h
    exact absurd h (by simp)
theorem rc_find_sp {c f s t : Nat → Int32} {D : Nat → Nat} {G : Nat → Nat → Prop} {sz n f0 i e : Nat} {nt : Nat → Int32} (w : rc_WF c f s sz D G) (hn : n ≤ 10) (hf : f0 ≤ n) (h : rc_find c f s t n f0 = some (i, e, nt)) : ∃ nt', rc_sr c f s t n i (nI e) = some (e, nt') := by
  have h1 := rc_fi_An w (n + 1 - f0) f0 i e nt (by omega) h
  exact rc_sr_mono w (by omega) h1.2.1 h1.2.2
theorem rc_woff {post : Int32 → Prop} {h m l z ct nc wt fe : Int32} {a1 a2 a3 a4 a5 a6 a7 a8 a9 a10 a11 a12 a13 a14 a15 a16 a17 a18 a19 : Nat → Int32} {nn f : Nat} (hnn : nn ≤ 10) (hf : f < 2 ^ 31) (H0 : f ≤ nn → post 0) (H1 : nn < f → post 1) : wpX_off post (h, m, l, z, nI nn, ct, nc, wt, fe, a1, a2, a3, a4, a5, a6, a7, a8, a9, a10, a11, a12, a13, a14, a15, a16, a17, a18, a19) (nI f) := br_f (nI_pos hf) (pk_le f nn H0 H1)
theorem rc_qfind {post : Int32 → St1 → Prop} {h m l z : Int32} {a1 a2 a3 a4 a5 a6 a7 a8 a9 : Nat → Int32} {nn sz f : Nat} {D : Nat → Nat} {G : Nat → Nat → Prop} (w : rc_WF a6 a7 a8 sz D G) (hnn : nn ≤ 10) (hf : f < 2 ^ 31) (ct nc wt fe : Int32) (a10 a11 a12 a13 a14 a15 a16 a17 a18 a19 : Nat → Int32) (H : ∀ (ct nc wt fe : Int32) (a10 a11 a12 a13 a14 a15 a16 a17 a18 a19 : Nat → Int32), post (rc_rv (rc_find a6 a7 a8 a9 nn f)) (h, m, l, z, nI nn, ct, nc, wt, fe, a1, a2, a3, a4, a5, a6, a7, a8, a9, a10, a11, a12, a13, a14, a15, a16, a17, a18, a19)) : wpX_find post (h, m, l, z, nI nn, ct, nc, wt, fe, a1, a2, a3, a4, a5, a6, a7, a8, a9, a10, a11, a12, a13, a14, a15, a16, a17, a18, a19) (nI f) := by
  unfold wpX_find
  refine rc_woff hnn hf (fun hi => br_t rfl ?_) (fun hi => br_f (by decide) ?_)
  · exact rc_wfind w hnn hi _ _ _ _ _ _ _ _ _ _ _ _ _ _ (fun ct nc wt fe a10 a11 a12 a13 a14 a15 a16 a17 a18 a19 _ => H ct nc wt fe a10 a11 a12 a13 a14 a15 a16 a17 a18 a19)
  · rw [rc_find_off hi] at H
    exact H ct nc wt fe a10 a11 a12 a13 a14 a15 a16 a17 a18 a19
theorem rc_qend {post : Int32 → St1 → Prop} {h m l z : Int32} {a1 a2 a3 a4 a5 a6 a7 a8 a9 : Nat → Int32} {nn sz f : Nat} {D : Nat → Nat} {G : Nat → Nat → Prop} (w : rc_WF a6 a7 a8 sz D G) (hnn : nn ≤ 10) (hf : f < 2 ^ 31) (ct nc wt fe : Int32) (a10 a11 a12 a13 a14 a15 a16 a17 a18 a19 : Nat → Int32) (H : ∀ (ct nc wt fe : Int32) (a10 a11 a12 a13 a14 a15 a16 a17 a18 a19 : Nat → Int32), post (rc_ev (rc_find a6 a7 a8 a9 nn f)) (h, m, l, z, nI nn, ct, nc, wt, fe, a1, a2, a3, a4, a5, a6, a7, a8, a9, a10, a11, a12, a13, a14, a15, a16, a17, a18, a19)) : wpX_end post (h, m, l, z, nI nn, ct, nc, wt, fe, a1, a2, a3, a4, a5, a6, a7, a8, a9, a10, a11, a12, a13, a14, a15, a16, a17, a18, a19) (nI f) := by
  unfold wpX_end
  refine rc_woff hnn hf (fun hi => br_t rfl ?_) (fun hi => br_f (by decide) ?_)
  · refine rc_wfind w hnn hi _ _ _ _ _ _ _ _ _ _ _ _ _ _ (fun ct nc wt fe a10 a11 a12 a13 a14 a15 a16 a17 a18 a19 hR => ?_)
    have hA := rc_find_FA (t := a9) (n := nn) (f0 := f) w
    generalize rc_find a6 a7 a8 a9 nn f = v at *
    cases v with
    | none => exact br_f (by decide) (H ct nc wt fe a10 a11 a12 a13 a14 a15 a16 a17 a18 a19)
    | some x =>
      obtain ⟨i, e, nt⟩ := x
      have h1 := hA i e nt rfl
      obtain ⟨h2, _⟩ := hR i e nt rfl
      rw [h2]
      exact br_t (nI_pos' (by omega)) (H _ _ _ _ _ _ _ _ _ _ _ _ _ _)
  · rw [rc_find_off hi] at H
    exact H ct nc wt fe a10 a11 a12 a13 a14 a15 a16 a17 a18 a19
theorem rc_qgroup {post : Int32 → St1 → Prop} {h m l z : Int32} {a1 a2 a3 a4 a5 a6 a7 a8 a9 : Nat → Int32} {nn sz f g : Nat} {D : Nat → Nat} {G : Nat → Nat → Prop} (w : rc_WF a6 a7 a8 sz D G) (hnn : nn ≤ 10) (hf : f < 2 ^ 31) (hg : g < 3) (ct nc wt fe : Int32) (a10 a11 a12 a13 a14 a15 a16 a17 a18 a19 : Nat → Int32) (H : ∀ (ct nc wt fe : Int32) (a10 a11 a12 a13 a14 a15 a16 a17 a18 a19 : Nat → Int32), post (rc_gv (rc_find a6 a7 a8 a9 nn f) g) (h, m, l, z, nI nn, ct, nc, wt, fe, a1, a2, a3, a4, a5, a6, a7, a8, a9, a10, a11, a12, a13, a14, a15, a16, a17, a18, a19)) : wpX_groupIn post (h, m, l, z, nI nn, ct, nc, wt, fe, a1, a2, a3, a4, a5, a6, a7, a8, a9, a10, a11, a12, a13, a14, a15, a16, a17, a18, a19) (nI f) (nI g) := by
  unfold wpX_groupIn
  refine rc_woff hnn hf (fun hi => br_t rfl (br_f (nI_pos (by omega)) (br_t (nI_le (b := 2) (by omega) (by omega)) ?_))) (fun hi => br_f (by decide) ?_)
  · refine rc_wfind w hnn hi _ _ _ _ _ _ _ _ _ _ _ _ _ _ (fun ct nc wt fe a10 a11 a12 a13 a14 a15 a16 a17 a18 a19 hR => ?_)
    have hA := rc_find_FA (t := a9) (n := nn) (f0 := f) w
    generalize rc_find a6 a7 a8 a9 nn f = v at *
    cases v with
    | none => exact br_f (by decide) (H ct nc wt fe a10 a11 a12 a13 a14 a15 a16 a17 a18 a19)
    | some x =>
      obtain ⟨i, e, nt⟩ := x
      have h1 := hA i e nt rfl
      obtain ⟨h2, h3⟩ := hR i e nt rfl
      refine br_t (nI_pos' (by omega)) (And.intro (pk_in g 6 (by omega)) ?_)
      refine ek_v (P := fun v => post v _) (show a19 (nI g).toNatClampNeg = nt g by rw [nI_clamp (by omega)]; exact h3 g (by omega)) (H ct nc wt fe a10 a11 a12 a13 a14 a15 a16 a17 a18 a19)
  · rw [rc_find_off hi] at H
    exact H ct nc wt fe a10 a11 a12 a13 a14 a15 a16 a17 a18 a19
theorem rc_qspans {post : Int32 → St1 → Prop} {h m l z : Int32} {a1 a2 a3 a4 a5 a6 a7 a8 a9 : Nat → Int32} {nn sz i j : Nat} {D : Nat → Nat} {G : Nat → Nat → Prop} {nt : Nat → Int32} (w : rc_WF a6 a7 a8 sz D G) (hnn : nn ≤ 10) (hi : i ≤ nn) (hj : j ≤ nn) (hs : rc_sr a6 a7 a8 a9 nn i (nI j) = some (j, nt)) (ct nc wt fe : Int32) (a10 a11 a12 a13 a14 a15 a16 a17 a18 a19 : Nat → Int32) (H : ∀ (ct nc wt fe : Int32) (a10 a11 a12 a13 a14 a15 a16 a17 a18 a19 : Nat → Int32), post 1 (h, m, l, z, nI nn, ct, nc, wt, fe, a1, a2, a3, a4, a5, a6, a7, a8, a9, a10, a11, a12, a13, a14, a15, a16, a17, a18, a19)) : wpX_spans post (h, m, l, z, nI nn, ct, nc, wt, fe, a1, a2, a3, a4, a5, a6, a7, a8, a9, a10, a11, a12, a13, a14, a15, a16, a17, a18, a19) (nI i) (nI j) := by
  unfold wpX_spans
  refine rc_woff hnn (by omega) (fun _ => br_t rfl (rc_woff hnn (by omega) (fun _ => br_t rfl ?_) (fun q => absurd q (by omega)))) (fun q => absurd q (by omega))
  refine rc_wsearch w hnn hi _ _ _ _ _ _ _ _ _ _ _ _ _ _ (fun ct nc wt fe a10 a11 a12 a13 a14 a15 a16 a17 a18 a19 hR => ?_)
  rw [hs] at hR
  exact br_t hR.1 (H ct nc wt fe a10 a11 a12 a13 a14 a15 a16 a17 a18 a19)
/-! count and longest -/
def rc_ch (F : Nat → Option (Nat × Nat × (Nat → Int32))) : Nat → Nat → Nat → Int32 → Nat × Int32
  | 0, _, c, b => (c, b)
  | k + 1, f, c, b => match F f with
    | none => (c, b)
    | some x => rc_ch F k (if x.2.1 ≤ x.1 then x.2.1 + 1 else x.2.1) (c + 1) (if nI x.2.1 - nI x.1 ≤ b then b else nI x.2.1 - nI x.1)
theorem rc_ch_none {F : Nat → Option (Nat × Nat × (Nat → Int32))} {f : Nat} (h : F f = none) (k c : Nat) (b : Int32) : rc_ch F k f c b = (c, b) := by
  cases k with
  | zero => rfl
  | succ k => unfold rc_ch; rw [h]
theorem rc_ch_fuel {F : Nat → Option (Nat × Nat × (Nat → Int32))} {n : Nat} (hF : ∀ f, rc_FA n f (F f)) (h0 : ∀ f, n < f → F f = none) : ∀ (k k' f c : Nat) (b : Int32), n + 1 ≤ f + k → n + 1 ≤ f + k' → rc_ch F k f c b = rc_ch F k' f c b := by
  intro k
  induction k with
  | zero => intro k' f c b h1 h2; rw [rc_ch_none (h0 f (by omega)), rc_ch_none (h0 f (by omega))]
  | succ k ih =>
    intro k' f c b h1 h2
    cases hv : F f with
    | none => rw [rc_ch_none hv, rc_ch_none hv]
    | some x =>
      obtain ⟨i, e, nt⟩ := x
      have hx := hF f i e nt hv
      obtain ⟨k'', rfl⟩ : ∃ k'', k' = k'' + 1 := ⟨k' - 1, by omega⟩
      unfold rc_ch
      rw [hv]
      dsimp only
      have hn : f + 1 ≤ (if e ≤ i then e + 1 else e) := by
        by_cases q : e ≤ i
        · rw [if_pos q]; omega
        · rw [if_neg q]; omega
      exact ih k'' _ _ _ (by omega) (by omega)
theorem rc_wcount {post : Int32 → St1 → Prop} {h m l z : Int32} {a1 a2 a3 a4 a5 a6 a7 a8 a9 : Nat → Int32} {nn sz : Nat} {D : Nat → Nat} {G : Nat → Nat → Prop} (w : rc_WF a6 a7 a8 sz D G) (hnn : nn ≤ 10) : ∀ (k f c N : Nat) (b : Int32) (ct nc wt fe : Int32) (a10 a11 a12 a13 a14 a15 a16 a17 a18 a19 : Nat → Int32), k < N → k ≤ 11 → f ≤ nn + 1 → (∀ (ct nc wt fe : Int32) (a10 a11 a12 a13 a14 a15 a16 a17 a18 a19 : Nat → Int32), post (nI (rc_ch (rc_find a6 a7 a8 a9 nn) k f c b).1) (h, m, l, z, nI nn, ct, nc, wt, fe, a1, a2, a3, a4, a5, a6, a7, a8, a9, a10, a11, a12, a13, a14, a15, a16, a17, a18, a19)) → wX_count_6 post N (nI c) (nI f) (nI (11 - k)) h m l z (nI nn) ct nc wt fe a1 a2 a3 a4 a5 a6 a7 a8 a9 a10 a11 a12 a13 a14 a15 a16 a17 a18 a19 := by
  intro k
  induction k with
  | zero =>
    intro f c N b ct nc wt fe a10 a11 a12 a13 a14 a15 a16 a17 a18 a19 hN _ _ H
    obtain ⟨M, rfl⟩ : ∃ M, N = M + 1 := ⟨N - 1, by omega⟩
    exact pk_lt 10 11 (fun _ => H ct nc wt fe a10 a11 a12 a13 a14 a15 a16 a17 a18 a19) (fun q => absurd q (by omega))
  | succ k ih =>
    intro f c N b ct nc wt fe a10 a11 a12 a13 a14 a15 a16 a17 a18 a19 hN hk hf H
    obtain ⟨M, rfl⟩ : ∃ M, N = M + 1 := ⟨N - 1, by omega⟩
    have ek : nI (11 - (k + 1)) + 1 = nI (11 - k) := by rw [nI_1, show 11 - (k + 1) + 1 = 11 - k by omega]
    refine pk_lt 10 (11 - (k + 1)) (fun q => absurd q (by omega)) (fun _ => pk_lt nn f (fun q => ?_) (fun q => ?_))
    · rw [rc_ch_none (rc_find_off q)] at H
      exact H ct nc wt fe a10 a11 a12 a13 a14 a15 a16 a17 a18 a19
    · refine rc_wfind w hnn q _ _ _ _ _ _ _ _ _ _ _ _ _ _ (fun ct nc wt fe a10 a11 a12 a13 a14 a15 a16 a17 a18 a19 hR => ?_)
      have hA := rc_find_FA (t := a9) (n := nn) (f0 := f) w
      unfold rc_ch at H
      generalize rc_find a6 a7 a8 a9 nn f = v at *
      cases v with
      | none => exact br_f (by decide) (H ct nc wt fe a10 a11 a12 a13 a14 a15 a16 a17 a18 a19)
      | some x =>
        obtain ⟨i, e, nt⟩ := x
        have h1 := hA i e nt rfl
        obtain ⟨h2, h3⟩ := hR i e nt rfl
        dsimp only at H
        subst h2
        refine br_t (nI_pos' (by omega)) (nm_r (nI_1 c) (pk_le e i (fun q2 => nm_r (nI_1 e) (nm_r ek ?_)) (fun q2 => nm_r ek ?_)))
        · rw [if_pos q2] at H
          exact ih _ _ _ _ _ _ _ _ _ _ _ _ _ _ _ _ _ _ (by omega) (by omega) (by omega) H
        · rw [if_neg (show ¬ e ≤ i by omega)] at H
          exact ih _ _ _ _ _ _ _ _ _ _ _ _ _ _ _ _ _ _ (by omega) (by omega) (by omega) H
theorem rc_wlongest {post : Int32 → St1 → Prop} {h m l z : Int32} {a1 a2 a3 a4 a5 a6 a7 a8 a9 : Nat → Int32} {nn sz : Nat} {D : Nat → Nat} {G : Nat → Nat → Prop} (w : rc_WF a6 a7 a8 sz D G) (hnn : nn ≤ 10) : ∀ (k f c N : Nat) (b : Int32) (ct nc wt fe : Int32) (a10 a11 a12 a13 a14 a15 a16 a17 a18 a19 : Nat → Int32), k < N → k ≤ 11 → f ≤ nn + 1 → (∀ (ct nc wt fe : Int32) (a10 a11 a12 a13 a14 a15 a16 a17 a18 a19 : Nat → Int32), post (rc_ch (rc_find a6 a7 a8 a9 nn) k f c b).2 (h, m, l, z, nI nn, ct, nc, wt, fe, a1, a2, a3, a4, a5, a6, a7, a8, a9, a10, a11, a12, a13, a14, a15, a16, a17, a18, a19)) → wX_longest_7 post N b (nI f) (nI (11 - k)) h m l z (nI nn) ct nc wt fe a1 a2 a3 a4 a5 a6 a7 a8 a9 a10 a11 a12 a13 a14 a15 a16 a17 a18 a19 := by
  intro k
  induction k with
  | zero =>
    intro f c N b ct nc wt fe a10 a11 a12 a13 a14 a15 a16 a17 a18 a19 hN _ _ H
    obtain ⟨M, rfl⟩ : ∃ M, N = M + 1 := ⟨N - 1, by omega⟩
    exact pk_lt 10 11 (fun _ => H ct nc wt fe a10 a11 a12 a13 a14 a15 a16 a17 a18 a19) (fun q => absurd q (by omega))
  | succ k ih =>
    intro f c N b ct nc wt fe a10 a11 a12 a13 a14 a15 a16 a17 a18 a19 hN hk hf H
    obtain ⟨M, rfl⟩ : ∃ M, N = M + 1 := ⟨N - 1, by omega⟩
    have ek : nI (11 - (k + 1)) + 1 = nI (11 - k) := by rw [nI_1, show 11 - (k + 1) + 1 = 11 - k by omega]
    refine pk_lt 10 (11 - (k + 1)) (fun q => absurd q (by omega)) (fun _ => pk_lt nn f (fun q => ?_) (fun q => ?_))
    · rw [rc_ch_none (rc_find_off q)] at H
      exact H ct nc wt fe a10 a11 a12 a13 a14 a15 a16 a17 a18 a19
    · refine rc_wfind w hnn q _ _ _ _ _ _ _ _ _ _ _ _ _ _ (fun ct nc wt fe a10 a11 a12 a13 a14 a15 a16 a17 a18 a19 hR => ?_)
      have hA := rc_find_FA (t := a9) (n := nn) (f0 := f) w
      unfold rc_ch at H
      generalize rc_find a6 a7 a8 a9 nn f = v at *
      cases v with
      | none => exact br_f (by decide) (H ct nc wt fe a10 a11 a12 a13 a14 a15 a16 a17 a18 a19)
      | some x =>
        obtain ⟨i, e, nt⟩ := x
        have h1 := hA i e nt rfl
        obtain ⟨h2, h3⟩ := hR i e nt rfl
        dsimp only at H
        subst h2
        have nx : ∀ b' : Int32, (∀ (ct nc wt fe : Int32) (a10 a11 a12 a13 a14 a15 a16 a17 a18 a19 : Nat → Int32), post (rc_ch (rc_find a6 a7 a8 a9 nn) k (if e ≤ i then e + 1 else e) (c + 1) b').2 (h, m, l, z, nI nn, ct, nc, wt, fe, a1, a2, a3, a4, a5, a6, a7, a8, a9, a10, a11, a12, a13, a14, a15, a16, a17, a18, a19)) → wX_longest_57 post (wX_longest_7 post M) (nI (11 - (k + 1))) (nI i) b' h m l z (nI nn) ct nc wt (nI e) a1 a2 a3 a4 a5 a6 a7 a8 a9 a10 a11 a12 a13 a14 a15 a16 a17 a18 a19 := by
          intro b' H'
          refine pk_le e i (fun q2 => nm_r (nI_1 e) (nm_r ek ?_)) (fun q2 => nm_r ek ?_)
          · rw [if_pos q2] at H'
            exact ih _ (c + 1) _ _ _ _ _ _ _ _ _ _ _ _ _ _ _ _ (by omega) (by omega) (by omega) H'
          · rw [if_neg (show ¬ e ≤ i by omega)] at H'
            exact ih _ (c + 1) _ _ _ _ _ _ _ _ _ _ _ _ _ _ _ _ (by omega) (by omega) (by omega) H'
        refine br_t (nI_pos' (by omega)) (br_c (fun q2 => nx _ ?_) (fun q2 => nx _ ?_))
        · have q3 : nI e - nI i ≤ b := q2
          rw [if_pos q3] at H
          exact H
        · have q3 : ¬ nI e - nI i ≤ b := q2
          rw [if_neg q3] at H
          exact H
end
section
/-! the law -/
/-- one group of a find -/
theorem rc_w216 {post : Int32 → St1 → Prop} {J16 : Int32 → Int32 → Int32 → Int32 → Int32 → Int32 → Int32 → Int32 → Int32 → Int32 → Int32 → Int32 → Int32 → (Nat → Int32) → (Nat → Int32) → (Nat → Int32) → (Nat → Int32) → (Nat → Int32) → (Nat → Int32) → (Nat → Int32) → (Nat → Int32) → (Nat → Int32) → (Nat → Int32) → (Nat → Int32) → (Nat → Int32) → (Nat → Int32) → (Nat → Int32) → (Nat → Int32) → (Nat → Int32) → (Nat → Int32) → (Nat → Int32) → (Nat → Int32) → Prop} {x1 x2 x3 x4 : Int32} {h m l z : Int32} {a1 a2 a3 a4 a5 a6 a7 a8 a9 : Nat → Int32} {nn sz f : Nat} {D : Nat → Nat} {G : Nat → Nat → Prop} (w : rc_WF a6 a7 a8 sz D G) (hnn : nn ≤ 10) (hf : f < 12)
    (H : ∀ (ct nc wt fe : Int32) (a10 a11 a12 a13 a14 a15 a16 a17 a18 a19 : Nat → Int32), J16 x2 x3 x4 (nI (f + 1)) h m l z (nI nn) ct nc wt fe a1 a2 a3 a4 a5 a6 a7 a8 a9 a10 a11 a12 a13 a14 a15 a16 a17 a18 a19) : ∀ (k N : Nat) (ct nc wt fe : Int32) (a10 a11 a12 a13 a14 a15 a16 a17 a18 a19 : Nat → Int32), k < N → k ≤ 3 → wL_sound_216 post J16 x1 x2 x3 x4 (nI f) (rc_rv (rc_find a6 a7 a8 a9 nn f)) (rc_ev (rc_find a6 a7 a8 a9 nn f)) N (nI (3 - k)) h m l z (nI nn) ct nc wt fe a1 a2 a3 a4 a5 a6 a7 a8 a9 a10 a11 a12 a13 a14 a15 a16 a17 a18 a19 := by
  intro k
  induction k with
  | zero =>
    intro N ct nc wt fe a10 a11 a12 a13 a14 a15 a16 a17 a18 a19 hN _
    obtain ⟨M, rfl⟩ : ∃ M, N = M + 1 := ⟨N - 1, by omega⟩
    exact pk_le 3 3 (fun _ => nm_r (nI_1 f) (H ct nc wt fe a10 a11 a12 a13 a14 a15 a16 a17 a18 a19)) (fun q => absurd q (by omega))
  | succ k ih =>
    intro N ct nc wt fe a10 a11 a12 a13 a14 a15 a16 a17 a18 a19 hN hk
    obtain ⟨M, rfl⟩ : ∃ M, N = M + 1 := ⟨N - 1, by omega⟩
    have ek : nI (3 - (k + 1)) + 1 = nI (3 - k) := by rw [nI_1, show 3 - (k + 1) + 1 = 3 - k by omega]
    refine pk_le 3 (3 - (k + 1)) (fun q => absurd q (by omega)) (fun _ => rc_qgroup w hnn (by omega) (by omega) _ _ _ _ _ _ _ _ _ _ _ _ _ _ (fun ct nc wt fe a10 a11 a12 a13 a14 a15 a16 a17 a18 a19 => ?_))
    have hA := rc_find_FA (t := a9) (n := nn) (f0 := f) w
    have go := ih M ct nc wt fe a10 a11 a12 a13 a14 a15 a16 a17 a18 a19 (by omega) (by omega)
    have neg : ∀ r : Int32, r = -4 → ¬ r < -4 ∧ ¬ r = -1 ∧ r < 0 := by
      intro r e; subst e; decide
    generalize rc_find a6 a7 a8 a9 nn f = v at *
    cases v with
    | none =>
      obtain ⟨n1, n2, n3⟩ := neg _ (show rc_gv none (3 - (k + 1)) = -4 from rfl)
      exact br_f n1 (br_f n2 (br_t n3 (nm_r ek go)))
    | some x =>
      obtain ⟨i, e, nt⟩ := x
      obtain ⟨h1, h2, h3, h4⟩ := hA i e nt rfl
      rcases h4 (3 - (k + 1)) (by omega) with q | ⟨b, d, b1, b2, b3, b4⟩
      · obtain ⟨n1, n2, n3⟩ := neg _ q
        exact br_f n1 (br_f n2 (br_t n3 (nm_r ek go)))
      · have hv : rc_gv (some (i, e, nt)) (3 - (k + 1)) = nI (16 * b + d) := b4
        rw [hv]
        have s1 : nI (16 * b + d) >>> ((4 : Int32) &&& 31) = nI b := by
          rw [pk_shrN (by omega) _ 4 (by decide), show (16 * b + d) / 2 ^ 4 = b by omega]
        have s2 : nI (16 * b + d) &&& 15 = nI d := by
          rw [pk_andN (by omega) 4 (by decide), show (16 * b + d) % 2 ^ 4 = d by omega]
        have p0 : ¬ nI (16 * b + d) < 0 := nI_pos (by omega)
        refine br_f (fun q => p0 (Int32.lt_trans q (by decide))) (br_f (fun q => p0 (by rw [q]; decide)) (br_f p0 (br_f ?_ (br_t ?_ (nm_r ek go)))))
        · rw [s1]; exact nI_nlt b1 (by omega)
        · rw [s2]; exact nI_le (b := e) b3 (by omega)
theorem rc_w216' {post : Int32 → St1 → Prop} {J16 : Int32 → Int32 → Int32 → Int32 → Int32 → Int32 → Int32 → Int32 → Int32 → Int32 → Int32 → Int32 → Int32 → (Nat → Int32) → (Nat → Int32) → (Nat → Int32) → (Nat → Int32) → (Nat → Int32) → (Nat → Int32) → (Nat → Int32) → (Nat → Int32) → (Nat → Int32) → (Nat → Int32) → (Nat → Int32) → (Nat → Int32) → (Nat → Int32) → (Nat → Int32) → (Nat → Int32) → (Nat → Int32) → (Nat → Int32) → (Nat → Int32) → (Nat → Int32) → Prop} {x1 x2 x3 x4 : Int32} {h m l z : Int32} {a1 a2 a3 a4 a5 a6 a7 a8 a9 : Nat → Int32} {nn sz f : Nat} {D : Nat → Nat} {G : Nat → Nat → Prop} {v : Option (Nat × Nat × (Nat → Int32))} (w : rc_WF a6 a7 a8 sz D G) (hnn : nn ≤ 10) (hf : f < 12) (hv : rc_find a6 a7 a8 a9 nn f = v) (ct nc wt fe : Int32) (a10 a11 a12 a13 a14 a15 a16 a17 a18 a19 : Nat → Int32)
    (H : ∀ (ct nc wt fe : Int32) (a10 a11 a12 a13 a14 a15 a16 a17 a18 a19 : Nat → Int32), J16 x2 x3 x4 (nI (f + 1)) h m l z (nI nn) ct nc wt fe a1 a2 a3 a4 a5 a6 a7 a8 a9 a10 a11 a12 a13 a14 a15 a16 a17 a18 a19) : ∃ fu, wL_sound_216 post J16 x1 x2 x3 x4 (nI f) (rc_rv v) (rc_ev v) fu 0 h m l z (nI nn) ct nc wt fe a1 a2 a3 a4 a5 a6 a7 a8 a9 a10 a11 a12 a13 a14 a15 a16 a17 a18 a19 := by
  rw [← hv]
  exact Exists.intro 4 (rc_w216 w hnn hf H 3 4 ct nc wt fe a10 a11 a12 a13 a14 a15 a16 a17 a18 a19 (by omega) (by omega))
/-- where the chain stands when the law looks at f -/
def rc_LI (F : Nat → Option (Nat × Nat × (Nat → Int32))) (nn f c : Nat) (b : Int32) (t : Nat) : Prop :=
  (t = 100 ∧ (c, b) = rc_ch F 12 0 0 (-4)) ∨ (f ≤ t ∧ t ≤ nn + 1 ∧ rc_ch F (12 - t) t c b = rc_ch F 12 0 0 (-4))
theorem rc_ch_some {F : Nat → Option (Nat × Nat × (Nat → Int32))} {f i e : Nat} {nt : Nat → Int32} (h : F f = some (i, e, nt)) (k c : Nat) (b : Int32) : rc_ch F (k + 1) f c b = rc_ch F k (if e ≤ i then e + 1 else e) (c + 1) (if nI e - nI i ≤ b then b else nI e - nI i) := by
  show (match F f with
    | none => (c, b)
    | some x => rc_ch F k (if x.2.1 ≤ x.1 then x.2.1 + 1 else x.2.1) (c + 1) (if nI x.2.1 - nI x.1 ≤ b then b else nI x.2.1 - nI x.1)) = _
  rw [h]
theorem rc_wbody {post : Int32 → St1 → Prop} {J16 : Int32 → Int32 → Int32 → Int32 → Int32 → Int32 → Int32 → Int32 → Int32 → Int32 → Int32 → Int32 → Int32 → (Nat → Int32) → (Nat → Int32) → (Nat → Int32) → (Nat → Int32) → (Nat → Int32) → (Nat → Int32) → (Nat → Int32) → (Nat → Int32) → (Nat → Int32) → (Nat → Int32) → (Nat → Int32) → (Nat → Int32) → (Nat → Int32) → (Nat → Int32) → (Nat → Int32) → (Nat → Int32) → (Nat → Int32) → (Nat → Int32) → (Nat → Int32) → Prop} {h m l z : Int32} {a1 a2 a3 a4 a5 a6 a7 a8 a9 : Nat → Int32} {nn sz f c t : Nat} {b : Int32} {D : Nat → Nat} {G : Nat → Nat → Prop} (w : rc_WF a6 a7 a8 sz D G) (hnn : nn ≤ 10) (hf : f < 12) (hI : rc_LI (rc_find a6 a7 a8 a9 nn) nn f c b t) (ct nc wt fe : Int32) (a10 a11 a12 a13 a14 a15 a16 a17 a18 a19 : Nat → Int32)
    (H : ∀ (c' t' : Nat) (b' : Int32) (ct nc wt fe : Int32) (a10 a11 a12 a13 a14 a15 a16 a17 a18 a19 : Nat → Int32), rc_LI (rc_find a6 a7 a8 a9 nn) nn (f + 1) c' b' t' → J16 (nI c') b' (nI t') (nI (f + 1)) h m l z (nI nn) ct nc wt fe a1 a2 a3 a4 a5 a6 a7 a8 a9 a10 a11 a12 a13 a14 a15 a16 a17 a18 a19) {v : Option (Nat × Nat × (Nat → Int32))} (hv : rc_find a6 a7 a8 a9 nn f = v) :
    wL_sound_117 post J16 (nI nn) (nI c) b (nI t) (nI f) (rc_rv v) (rc_ev v) h m l z (nI nn) ct nc wt fe a1 a2 a3 a4 a5 a6 a7 a8 a9 a10 a11 a12 a13 a14 a15 a16 a17 a18 a19 := by
  have hF : ∀ f, rc_FA nn f (rc_find a6 a7 a8 a9 nn f) := fun f => rc_find_FA w
  have h0 : ∀ f, nn < f → rc_find a6 a7 a8 a9 nn f = none := fun f hf => rc_find_off hf
  have hA := hF f
  rw [hv] at hA
  have ht : t < 2 ^ 31 := by
    rcases hI with q | q
    · omega
    · omega
  refine pk_eq f t (fun e => ?_) (fun e => ?_)
  · subst e
    have hI2 : f ≤ nn + 1 ∧ rc_ch (rc_find a6 a7 a8 a9 nn) (12 - f) f c b = rc_ch (rc_find a6 a7 a8 a9 nn) 12 0 0 (-4) := by
      rcases hI with q | q
      · exact absurd q.1 (by omega)
      · exact ⟨q.2.1, q.2.2⟩
    cases v with
    | none =>
      rw [rc_ch_none hv] at hI2
      exact br_t (show rc_rv none < 0 by decide) (br_t rfl (br_t rfl (br_t rfl (br_t rfl (rc_w216' w hnn hf hv ct nc wt fe a10 a11 a12 a13 a14 a15 a16 a17 a18 a19 (fun ct nc wt fe a10 a11 a12 a13 a14 a15 a16 a17 a18 a19 => H c 100 b ct nc wt fe a10 a11 a12 a13 a14 a15 a16 a17 a18 a19 (Or.inl ⟨rfl, hI2.2⟩)))))))
    | some x =>
      obtain ⟨i, e, nt⟩ := x
      obtain ⟨h1, h2, h3, h4⟩ := hA i e nt rfl
      have hI3 := hI2.2
      rw [show 12 - f = (11 - f) + 1 by omega, rc_ch_some hv] at hI3
      have nx : ∀ b' : Int32, b' = (if nI e - nI i ≤ b then b else nI e - nI i) → wL_sound_172 post J16 (nI nn) (nI c + 1) (nI f) (nI f) (nI i) (nI e) 1 b' h m l z (nI nn) ct nc wt fe a1 a2 a3 a4 a5 a6 a7 a8 a9 a10 a11 a12 a13 a14 a15 a16 a17 a18 a19 := by
        intro b' hb
        rw [← hb] at hI3
        refine br_f (by decide) (pk_eq e i (fun q => nm_r (nI_1 e) ?_) (fun q => ?_))
        · rw [if_pos (by omega)] at hI3
          refine rc_w216' (v := some (i, e, nt)) w hnn hf hv ct nc wt fe a10 a11 a12 a13 a14 a15 a16 a17 a18 a19 (fun ct nc wt fe a10 a11 a12 a13 a14 a15 a16 a17 a18 a19 => ?_)
          rw [nI_1 c]
          exact H (c + 1) (e + 1) b' ct nc wt fe a10 a11 a12 a13 a14 a15 a16 a17 a18 a19 (Or.inr ⟨by omega, by omega, by rw [← hI3]; exact rc_ch_fuel hF h0 _ _ _ _ _ (by omega) (by omega)⟩)
        · rw [if_neg (by omega)] at hI3
          refine rc_w216' (v := some (i, e, nt)) w hnn hf hv ct nc wt fe a10 a11 a12 a13 a14 a15 a16 a17 a18 a19 (fun ct nc wt fe a10 a11 a12 a13 a14 a15 a16 a17 a18 a19 => ?_)
          rw [nI_1 c]
          exact H (c + 1) e b' ct nc wt fe a10 a11 a12 a13 a14 a15 a16 a17 a18 a19 (Or.inr ⟨by omega, by omega, by rw [← hI3]; exact rc_ch_fuel hF h0 _ _ _ _ _ (by omega) (by omega)⟩)
      refine br_f (show ¬ nI i < 0 from nI_pos (by omega)) (br_f (by decide) (br_f (by decide) (br_c (fun q => ?_) (fun q => ?_))))
      · have q3 : nI e - nI i ≤ b := q
        exact nx b (by rw [if_pos q3])
      · have q3 : ¬ nI e - nI i ≤ b := q
        exact nx (nI e - nI i) (by rw [if_neg q3])
  · refine br_t rfl (br_t rfl (br_t rfl (pk_eq f t (fun q => absurd q e) (fun _ => rc_w216' w hnn hf hv ct nc wt fe a10 a11 a12 a13 a14 a15 a16 a17 a18 a19 (fun ct nc wt fe a10 a11 a12 a13 a14 a15 a16 a17 a18 a19 => H c t b ct nc wt fe a10 a11 a12 a13 a14 a15 a16 a17 a18 a19 ?_)))))
    rcases hI with q | q
    · exact Or.inl q
    · exact Or.inr ⟨by omega, q.2.1, q.2.2⟩
theorem rc_ne4 {i : Nat} (h : i < 2 ^ 31) : ¬ nI i = -4 := fun e => nI_pos h (by rw [e]; decide)
/-- the checks of one find -/
theorem rc_wone {post : Int32 → St1 → Prop} {J16 : Int32 → Int32 → Int32 → Int32 → Int32 → Int32 → Int32 → Int32 → Int32 → Int32 → Int32 → Int32 → Int32 → (Nat → Int32) → (Nat → Int32) → (Nat → Int32) → (Nat → Int32) → (Nat → Int32) → (Nat → Int32) → (Nat → Int32) → (Nat → Int32) → (Nat → Int32) → (Nat → Int32) → (Nat → Int32) → (Nat → Int32) → (Nat → Int32) → (Nat → Int32) → (Nat → Int32) → (Nat → Int32) → (Nat → Int32) → (Nat → Int32) → (Nat → Int32) → Prop} {h m l z : Int32} {a1 a2 a3 a4 a5 a6 a7 a8 a9 : Nat → Int32} {nn sz f c t : Nat} {b : Int32} {D : Nat → Nat} {G : Nat → Nat → Prop} (w : rc_WF a6 a7 a8 sz D G) (hnn : nn ≤ 10) (hf : f < 12) (hI : rc_LI (rc_find a6 a7 a8 a9 nn) nn f c b t) (ct nc wt fe : Int32) (a10 a11 a12 a13 a14 a15 a16 a17 a18 a19 : Nat → Int32)
    (H : ∀ (c' t' : Nat) (b' : Int32) (ct nc wt fe : Int32) (a10 a11 a12 a13 a14 a15 a16 a17 a18 a19 : Nat → Int32), rc_LI (rc_find a6 a7 a8 a9 nn) nn (f + 1) c' b' t' → J16 (nI c') b' (nI t') (nI (f + 1)) h m l z (nI nn) ct nc wt fe a1 a2 a3 a4 a5 a6 a7 a8 a9 a10 a11 a12 a13 a14 a15 a16 a17 a18 a19) {v : Option (Nat × Nat × (Nat → Int32))} (hv : rc_find a6 a7 a8 a9 nn f = v) :
    (rc_rv v = -4 → wL_sound_51 post J16 (nI nn) (nI c) b (nI t) (nI f) (rc_rv v) (rc_ev v) 1 h m l z (nI nn) ct nc wt fe a1 a2 a3 a4 a5 a6 a7 a8 a9 a10 a11 a12 a13 a14 a15 a16 a17 a18 a19) ∧ (¬ rc_rv v = -4 → wL_sound_51 post J16 (nI nn) (nI c) b (nI t) (nI f) (rc_rv v) (rc_ev v) 0 h m l z (nI nn) ct nc wt fe a1 a2 a3 a4 a5 a6 a7 a8 a9 a10 a11 a12 a13 a14 a15 a16 a17 a18 a19) := by
  have hA : rc_FA nn f (rc_find a6 a7 a8 a9 nn f) := rc_find_FA w
  cases v with
  | none =>
    have body := rc_wbody (post := post) (h := h) (m := m) (l := l) (z := z) (a1 := a1) (a2 := a2) (a3 := a3) (a4 := a4) (a5 := a5) w hnn hf hI ct nc wt fe a10 a11 a12 a13 a14 a15 a16 a17 a18 a19 H hv
    exact br_t rfl (br_t rfl (br_t rfl (br_t (show rc_rv none < 0 by decide) (br_c (fun _ => body) (fun _ => br_t rfl body)))))
  | some x =>
    obtain ⟨i, e, nt⟩ := x
    obtain ⟨h1, h2, h3, h4⟩ := hA i e nt hv
    have hfn : f ≤ nn := by omega
    obtain ⟨nt', hs⟩ := rc_find_sp w hnn hfn hv
    refine br_f (show ¬ nI i = -4 from rc_ne4 (by omega)) (br_f (show ¬ nI e = -4 from rc_ne4 (by omega)) (br_t rfl (br_f (show ¬ nI i < 0 from nI_pos (by omega)) (br_f (show ¬ nI i < nI f from nI_nlt h1 (by omega)) (br_f (show ¬ nI e < nI i from nI_nlt h2 (by omega)) (br_f (show ¬ nI nn < nI e from nI_nlt h3 (by omega)) ?_))))))
    refine rc_qspans w hnn (by omega) h3 hs ct nc wt fe a10 a11 a12 a13 a14 a15 a16 a17 a18 a19 (fun ct nc wt fe a10 a11 a12 a13 a14 a15 a16 a17 a18 a19 => br_f (by decide) (br_t (nI_le hfn (by omega)) ?_))
    exact rc_wbody w hnn hf hI ct nc wt fe a10 a11 a12 a13 a14 a15 a16 a17 a18 a19 H hv
theorem rc_w16 {post : Int32 → St1 → Prop} {l z : Int32} {a1 a2 a3 a4 a5 a6 a7 a8 a9 : Nat → Int32} {nn sz hN mN : Nat} {D : Nat → Nat} {G : Nat → Nat → Prop} (w : rc_WF a6 a7 a8 sz D G) (hnn : nn ≤ 10) (hh : hN ≤ 6) (hm : mN ≤ 16) (hhm : hN ≤ mN) (H : ∀ (ct nc wt fe : Int32) (a10 a11 a12 a13 a14 a15 a16 a17 a18 a19 : Nat → Int32), post 1 (nI hN, nI mN, l, z, nI nn, ct, nc, wt, fe, a1, a2, a3, a4, a5, a6, a7, a8, a9, a10, a11, a12, a13, a14, a15, a16, a17, a18, a19)) : ∀ (k N c t : Nat) (b : Int32) (ct nc wt fe : Int32) (a10 a11 a12 a13 a14 a15 a16 a17 a18 a19 : Nat → Int32), k < N → k ≤ 12 → rc_LI (rc_find a6 a7 a8 a9 nn) nn (12 - k) c b t → wL_sound_16 post (nI nn) N (nI c) b (nI t) (nI (12 - k)) (nI hN) (nI mN) l z (nI nn) ct nc wt fe a1 a2 a3 a4 a5 a6 a7 a8 a9 a10 a11 a12 a13 a14 a15 a16 a17 a18 a19 := by
  have hF : ∀ f, rc_FA nn f (rc_find a6 a7 a8 a9 nn f) := fun f => rc_find_FA w
  have h0 : ∀ f, nn < f → rc_find a6 a7 a8 a9 nn f = none := fun f hf => rc_find_off hf
  intro k
  induction k with
  | zero =>
    intro N c t b ct nc wt fe a10 a11 a12 a13 a14 a15 a16 a17 a18 a19 hNN _ hI
    obtain ⟨M, rfl⟩ : ∃ M, N = M + 1 := ⟨N - 1, by omega⟩
    have hE : rc_ch (rc_find a6 a7 a8 a9 nn) 11 0 0 (-4) = (c, b) := by
      rcases hI with q | q
      · rw [q.2]; exact rc_ch_fuel hF h0 _ _ _ _ _ (by omega) (by omega)
      · exact absurd q.1 (by omega)
    have hE1 : (rc_ch (rc_find a6 a7 a8 a9 nn) 11 0 0 (-4)).1 = c := by rw [hE]
    have hE2 : (rc_ch (rc_find a6 a7 a8 a9 nn) 11 0 0 (-4)).2 = b := by rw [hE]
    refine pk_le 12 12 (fun _ => Exists.intro 12 (rc_wcount w hnn 11 0 0 12 (-4) ct nc wt fe a10 a11 a12 a13 a14 a15 a16 a17 a18 a19 (by omega) (by omega) (by omega) (fun ct nc wt fe a10 a11 a12 a13 a14 a15 a16 a17 a18 a19 => ?_))) (fun q => absurd q (by omega))
    rw [hE1]
    refine br_t rfl (Exists.intro 12 (rc_wlongest w hnn 11 0 0 12 (-4) ct nc wt fe a10 a11 a12 a13 a14 a15 a16 a17 a18 a19 (by omega) (by omega) (by omega) (fun ct nc wt fe a10 a11 a12 a13 a14 a15 a16 a17 a18 a19 => ?_)))
    rw [hE2]
    refine br_t rfl (br_f (nI_pos (by omega)) (br_f (show ¬ (10 : Int32) < nI nn from nI_nlt (a := 10) hnn (by omega)) (br_f (show ¬ nI mN < nI hN from nI_nlt hhm (by omega)) (br_f (show ¬ (16 : Int32) < nI mN from nI_nlt (a := 16) hm (by omega)) (br_f (show ¬ (6 : Int32) < nI hN from nI_nlt (a := 6) hh (by omega)) (H ct nc wt fe a10 a11 a12 a13 a14 a15 a16 a17 a18 a19))))))
  | succ k ih =>
    intro N c t b ct nc wt fe a10 a11 a12 a13 a14 a15 a16 a17 a18 a19 hNN hk hI
    obtain ⟨M, rfl⟩ : ∃ M, N = M + 1 := ⟨N - 1, by omega⟩
    refine pk_le 12 (12 - (k + 1)) (fun q => absurd q (by omega)) (fun _ => rc_qfind w hnn (by omega) ct nc wt fe a10 a11 a12 a13 a14 a15 a16 a17 a18 a19 (fun ct nc wt fe a10 a11 a12 a13 a14 a15 a16 a17 a18 a19 => rc_qend w hnn (by omega) ct nc wt fe a10 a11 a12 a13 a14 a15 a16 a17 a18 a19 (fun ct nc wt fe a10 a11 a12 a13 a14 a15 a16 a17 a18 a19 => ?_)))
    refine rc_wone w hnn (by omega) hI ct nc wt fe a10 a11 a12 a13 a14 a15 a16 a17 a18 a19 (fun c' t' b' ct nc wt fe a10 a11 a12 a13 a14 a15 a16 a17 a18 a19 hI' => ?_) rfl
    rw [show 12 - (k + 1) + 1 = 12 - k by omega] at hI' ⊢
    exact ih M c' t' b' ct nc wt fe a10 a11 a12 a13 a14 a15 a16 a17 a18 a19 (by omega) (by omega) hI'
theorem rc_wsound {post : Int32 → St1 → Prop} {l z : Int32} {a1 a2 a3 a4 a5 a6 a7 a8 a9 : Nat → Int32} {nn sz hN mN : Nat} {D : Nat → Nat} {G : Nat → Nat → Prop} (w : rc_WF a6 a7 a8 sz D G) (hnn : nn ≤ 10) (hh : hN ≤ 6) (hm : mN ≤ 16) (hhm : hN ≤ mN) (ct nc wt fe : Int32) (a10 a11 a12 a13 a14 a15 a16 a17 a18 a19 : Nat → Int32) (H : ∀ (ct nc wt fe : Int32) (a10 a11 a12 a13 a14 a15 a16 a17 a18 a19 : Nat → Int32), post 1 (nI hN, nI mN, l, z, nI nn, ct, nc, wt, fe, a1, a2, a3, a4, a5, a6, a7, a8, a9, a10, a11, a12, a13, a14, a15, a16, a17, a18, a19)) : wpL_sound post (nI hN, nI mN, l, z, nI nn, ct, nc, wt, fe, a1, a2, a3, a4, a5, a6, a7, a8, a9, a10, a11, a12, a13, a14, a15, a16, a17, a18, a19) :=
  Exists.intro 13 (rc_w16 w hnn hh hm hhm H 12 13 0 0 (-4) ct nc wt fe a10 a11 a12 a13 a14 a15 a16 a17 a18 a19 (by omega) (by omega) (Or.inr ⟨by omega, by omega, rfl⟩))
theorem rc_w124 {L : Nat} {xs : Nat → Int32} {J10 : Int32 → Int32 → Int32 → Int32 → Int32 → Int32 → Int32 → Int32 → Int32 → Int32 → (Nat → Int32) → (Nat → Int32) → (Nat → Int32) → (Nat → Int32) → (Nat → Int32) → (Nat → Int32) → (Nat → Int32) → (Nat → Int32) → (Nat → Int32) → (Nat → Int32) → (Nat → Int32) → (Nat → Int32) → (Nat → Int32) → (Nat → Int32) → (Nat → Int32) → (Nat → Int32) → (Nat → Int32) → (Nat → Int32) → (Nat → Int32) → Prop} {post : Int32 → Prop} {x5 : Int32} {kc ks k hN mN lN nn sz : Nat} {z : Int32} {a1 a2 a3 a4 a5 a6 a7 a8 a9 : Nat → Int32} {D : Nat → Nat} {G : Nat → Nat → Prop} (w : rc_WF a6 a7 a8 sz D G) (hnn : nn ≤ 10) (h5 : rc_rv (rc_find a6 a7 a8 a9 nn 0) = x5) (ct nc wt fe : Int32) (a10 a11 a12 a13 a14 a15 a16 a17 a18 a19 : Nat → Int32) (H : ∀ (ct nc wt fe : Int32) (a10 a11 a12 a13 a14 a15 a16 a17 a18 a19 : Nat → Int32), J10 (nI (k + 2)) (nI hN) (nI mN) (nI lN) z (nI nn) ct nc wt fe a1 a2 a3 a4 a5 a6 a7 a8 a9 a10 a11 a12 a13 a14 a15 a16 a17 a18 a19) : wL_law_124 post L xs J10 (nI k) x5 kc ks (nI hN) (nI mN) (nI lN) z (nI nn) ct nc wt fe a1 a2 a3 a4 a5 a6 a7 a8 a9 a10 a11 a12 a13 a14 a15 a16 a17 a18 a19 := by
  unfold wL_law_124
  exact rc_qfind (f := 0) w hnn (by omega) ct nc wt fe a10 a11 a12 a13 a14 a15 a16 a17 a18 a19 (fun ct nc wt fe a10 a11 a12 a13 a14 a15 a16 a17 a18 a19 => br_t h5 (nm_r (nI_add k 2) (H ct nc wt fe a10 a11 a12 a13 a14 a15 a16 a17 a18 a19)))
theorem rc_qsteps {post : Int32 → Prop} {z ct nc wt fe : Int32} {a1 a2 a3 a4 a5 a6 a7 a8 a9 a10 a11 a12 a13 a14 a15 a16 a17 a18 a19 : Nat → Int32} {hN mN lN nn : Nat} (H : post (nI mN)) : wpX_steps post (nI hN, nI mN, nI lN, z, nI nn, ct, nc, wt, fe, a1, a2, a3, a4, a5, a6, a7, a8, a9, a10, a11, a12, a13, a14, a15, a16, a17, a18, a19) := H
theorem rc_qg3 {post : Int32 → St1 → Prop} {z ct nc wt fe : Int32} {a1 a2 a3 a4 a5 a6 a7 a8 a9 a10 a11 a12 a13 a14 a15 a16 a17 a18 a19 : Nat → Int32} {hN mN lN nn : Nat} (hnn : nn ≤ 10) (H : post (-4) (nI hN, nI mN, nI lN, z, nI nn, ct, nc, wt, fe, a1, a2, a3, a4, a5, a6, a7, a8, a9, a10, a11, a12, a13, a14, a15, a16, a17, a18, a19)) : wpX_groupIn post (nI hN, nI mN, nI lN, z, nI nn, ct, nc, wt, fe, a1, a2, a3, a4, a5, a6, a7, a8, a9, a10, a11, a12, a13, a14, a15, a16, a17, a18, a19) 0 3 := by
  unfold wpX_groupIn
  exact rc_woff (f := 0) hnn (by omega) (fun _ => br_t rfl (br_f (by decide) (br_f (by decide) H))) (fun q => absurd q (by omega))
theorem rc_qs11 {post : Int32 → St1 → Prop} {z ct nc wt fe : Int32} {a1 a2 a3 a4 a5 a6 a7 a8 a9 a10 a11 a12 a13 a14 a15 a16 a17 a18 a19 : Nat → Int32} {hN mN lN nn : Nat} (hnn : nn ≤ 10) (H : post 0 (nI hN, nI mN, nI lN, z, nI nn, ct, nc, wt, fe, a1, a2, a3, a4, a5, a6, a7, a8, a9, a10, a11, a12, a13, a14, a15, a16, a17, a18, a19)) : wpX_spans post (nI hN, nI mN, nI lN, z, nI nn, ct, nc, wt, fe, a1, a2, a3, a4, a5, a6, a7, a8, a9, a10, a11, a12, a13, a14, a15, a16, a17, a18, a19) 0 11 := by
  unfold wpX_spans
  exact rc_woff (f := 0) hnn (by omega) (fun _ => br_t rfl (rc_woff (f := 11) hnn (by omega) (fun q => absurd q (by omega)) (fun _ => br_f (by decide) H))) (fun q => absurd q (by omega))
theorem rc_w10 (xs : Nat → Int32) (L : Nat) (hL : L ≤ 260) (kc ks : Nat) : ∀ (d k N hN mN lN nn sz : Nat) (D : Nat → Nat) (G : Nat → Nat → Prop) (z : Int32) (a1 a2 a3 a4 a5 a6 a7 a8 a9 : Nat → Int32) (ct nc wt fe : Int32) (a10 a11 a12 a13 a14 a15 a16 a17 a18 a19 : Nat → Int32), L ≤ k + d → d < N → k ≤ 1000 → rc_PS hN mN lN a1 a3 a4 a5 → nn ≤ 10 → rc_WF a6 a7 a8 sz D G → wL_law_10 (fun r => r = 1) L xs kc ks N (nI k) (nI hN) (nI mN) (nI lN) z (nI nn) ct nc wt fe a1 a2 a3 a4 a5 a6 a7 a8 a9 a10 a11 a12 a13 a14 a15 a16 a17 a18 a19 := by
  intro d
  induction d with
  | zero =>
    intro k N hN mN lN nn sz D G z a1 a2 a3 a4 a5 a6 a7 a8 a9 ct nc wt fe a10 a11 a12 a13 a14 a15 a16 a17 a18 a19 hd hN' hk hP hnn w
    obtain ⟨M, rfl⟩ : ∃ M, N = M + 1 := ⟨N - 1, by omega⟩
    exact pk_le L (k + 1) (fun _ => rc_qg3 hnn (br_t rfl (br_t (show (-1 : Int32) < 0 by decide) (br_t rfl (rc_qs11 hnn (br_t rfl (br_f (show ¬ (3 : Int32) < 0 by decide) (br_f (show ¬ (3 : Int32) ≤ 2 by decide) (br_t rfl rfl))))))))) (fun q => absurd q (by omega)) rfl (nI_1 k)
  | succ d ih =>
    intro k N hN mN lN nn sz D G z a1 a2 a3 a4 a5 a6 a7 a8 a9 ct nc wt fe a10 a11 a12 a13 a14 a15 a16 a17 a18 a19 hd hN' hk hP hnn w
    obtain ⟨M, rfl⟩ : ∃ M, N = M + 1 := ⟨N - 1, by omega⟩
    obtain ⟨o, ho, eo⟩ := pk_andE (xs (nI k).toNatClampNeg) (m := 31) 5 (by decide)
    refine pk_le L (k + 1) (fun _ => rc_qg3 hnn (br_t rfl (br_t (show (-1 : Int32) < 0 by decide) (br_t rfl (rc_qs11 hnn (br_t rfl (br_f (show ¬ (3 : Int32) < 0 by decide) (br_f (show ¬ (3 : Int32) ≤ 2 by decide) (br_t rfl rfl))))))))) (fun q => And.intro (pk_in k L (by omega)) (nm_r eo ?_)) rfl (nI_1 k)
    refine rc_qsteps (rc_qfind (f := 0) w hnn (by omega) ct nc wt fe a10 a11 a12 a13 a14 a15 a16 a17 a18 a19 (fun ct nc wt fe a10 a11 a12 a13 a14 a15 a16 a17 a18 a19 => And.intro (pk_in (k + 1) L (by omega) (nI_1 k)) ?_))
    have em : mN < 2 ^ 31 := by have := hP.2.2.1; omega
    refine rc_wturn hP hnn w ho ?_ ?_ ?_ ?_
    · intro r hN' mN' lN' a1 a2 a3 a4 a5 o19 hP' hr
      refine rc_wsound w hnn hP'.1 hP'.2.2.1 hP'.2.1 ct nc wt fe a10 a11 a12 a13 a14 a15 a16 a17 a18 a19 (fun ct nc wt fe a10 a11 a12 a13 a14 a15 a16 a17 a18 a19 => br_f (by decide) (rc_qsteps ?_))
      have nx := rc_w124 (post := fun r => r = 1) (L := L) (xs := xs) (J10 := wL_law_10 (fun r => r = 1) L xs kc ks M) (kc := kc) (ks := ks) (k := k) w hnn rfl ct nc wt fe a10 a11 a12 a13 a14 a15 a16 a17 a18 a19 (fun ct nc wt fe a10 a11 a12 a13 a14 a15 a16 a17 a18 a19 => ih (k + 2) M hN' mN' lN' nn sz D G z a1 a2 a3 a4 a5 a6 a7 a8 a9 ct nc wt fe a10 a11 a12 a13 a14 a15 a16 a17 a18 a19 (by omega) (by omega) (by omega) hP' hnn w)
      refine pk_le 19 o (fun q => absurd q (by omega)) (fun _ => br_c (fun q => ?_) (fun q => ?_))
      · have e : mN' = mN := by
          rcases hr with s | s
          · exact absurd s.1 (Int32.not_lt.mpr q)
          · exact s.2
        exact br_t (by rw [e]) (br_t (nI_lt (b := 19) o19 (by omega)) nx)
      · have e : mN' = mN + 1 := by
          rcases hr with s | s
          · exact s.2
          · exact absurd (Int32.not_le.mp q) s.1
        exact br_t (by rw [e, nI_1]) (br_t (nI_lt (b := 19) o19 (by omega)) nx)
    · intro r hN' mN' lN' z sz D G a6 a7 a8 o19 o24 hP' w' hr
      refine rc_wsound w' hnn hP'.1 hP'.2.2.1 hP'.2.1 ct nc wt fe a10 a11 a12 a13 a14 a15 a16 a17 a18 a19 (fun ct nc wt fe a10 a11 a12 a13 a14 a15 a16 a17 a18 a19 => br_f (by decide) (rc_qsteps ?_))
      have nx := ih (k + 2) M hN' mN' lN' nn sz D G z a1 a2 a3 a4 a5 a6 a7 a8 a9 ct nc wt fe a10 a11 a12 a13 a14 a15 a16 a17 a18 a19 (by omega) (by omega) (by omega) hP' hnn w'
      have fin : ∀ x5 z0 : Int32, nI mN' = z0 → wL_law_107 (fun r => r = 1) L xs (wL_law_10 (fun r => r = 1) L xs kc ks M) (nI k) (nI o) x5 z0 (nI mN') kc ks (nI hN') (nI mN') (nI lN') z (nI nn) ct nc wt fe a1 a2 a3 a4 a5 a6 a7 a8 a9 a10 a11 a12 a13 a14 a15 a16 a17 a18 a19 := fun x5 z0 e =>
        br_t e (br_f (nI_nlt (b := 19) o19 (by omega)) (br_f (show ¬ nI o = 30 from fun q => absurd ((nI_eq (b := 30) (by omega) (by omega)).mp q) (by omega)) (nm_r (nI_add k 2) nx)))
      refine pk_le 19 o (fun _ => pk_le 24 o (fun q => absurd q (by omega)) (fun _ => br_c (fun q => ?_) (fun q => ?_))) (fun q => absurd q (by omega))
      · have e : mN' = 0 := by
          rcases hr with s | s
          · exact s.2
          · exact absurd q s.1
        exact fin _ 0 (by rw [e]; rfl)
      · have e : mN' = mN := by
          rcases hr with s | s
          · exact absurd s.1 q
          · exact s.2
        exact br_f (show ¬ nI o = 30 from fun q => absurd ((nI_eq (b := 30) (by omega) (by omega)).mp q) (by omega)) (fin _ (nI mN) (by rw [e]))
    · intro r nn' a9 hnn' o24 o30
      refine rc_wsound w hnn' hP.1 hP.2.2.1 hP.2.1 ct nc wt fe a10 a11 a12 a13 a14 a15 a16 a17 a18 a19 (fun ct nc wt fe a10 a11 a12 a13 a14 a15 a16 a17 a18 a19 => br_f (by decide) (rc_qsteps ?_))
      have nx := ih (k + 2) M hN mN lN nn' sz D G z a1 a2 a3 a4 a5 a6 a7 a8 a9 ct nc wt fe a10 a11 a12 a13 a14 a15 a16 a17 a18 a19 (by omega) (by omega) (by omega) hP hnn' w
      have n30 : ¬ nI o = 30 := fun q => absurd ((nI_eq (b := 30) (by omega) (by omega)).mp q) o30
      exact pk_le 19 o (fun _ => pk_le 24 o (fun _ => br_f n30 (br_t rfl (br_f (nI_nlt (b := 19) (by omega) (by omega)) (br_f n30 (nm_r (nI_add k 2) nx))))) (fun q => absurd q (by omega))) (fun q => absurd q (by omega))
    · intro o30
      subst o30
      refine rc_wsound (hN := 0) (mN := 0) w hnn (by omega) (by omega) (by omega) ct nc wt fe a10 a11 a12 a13 a14 a15 a16 a17 a18 a19 (fun ct nc wt fe a10 a11 a12 a13 a14 a15 a16 a17 a18 a19 => br_f (by decide) (rc_qsteps (mN := 0) ?_))
      have nx := rc_w124 (post := fun r => r = 1) (L := L) (xs := xs) (J10 := wL_law_10 (fun r => r = 1) L xs kc ks M) (kc := kc) (ks := ks) (k := k) w hnn rfl ct nc wt fe a10 a11 a12 a13 a14 a15 a16 a17 a18 a19 (fun ct nc wt fe a10 a11 a12 a13 a14 a15 a16 a17 a18 a19 => ih (k + 2) M 0 0 0 nn sz D G z a1 a2 a3 a4 a5 a6 a7 a8 a9 ct nc wt fe a10 a11 a12 a13 a14 a15 a16 a17 a18 a19 (by omega) (by omega) (by omega) (rc_PS_0 _ _ _ _) hnn w)
      exact pk_le 19 30 (fun _ => pk_le 24 30 (fun _ => br_t rfl (br_t rfl (br_f (by decide) (br_t rfl nx)))) (fun q => absurd q (by omega))) (fun q => absurd q (by omega))
theorem rc_WF_0 : rc_WF (upd (fun _ => 0) 0 4) (fun _ => 0) (fun _ => 0) 1 (fun _ => 0) (fun _ _ => False) :=
  ⟨by omega, by omega, fun _ _ => Nat.zero_le _, fun _ h => h, fun p hp => by
    have e : p = 0 := by omega
    rw [e]
    exact Or.inl pk_us⟩
theorem i_vc (xs : Nat → Int32) (L : Nat) (hL : L ≤ 260) : wpL_law (fun r => r = 1) L xs := by
  refine ⟨19, 7522, by omega, by omega, ?_⟩
  unfold wpX_init
  refine ⟨by omega, by omega, by omega, by omega, by omega, by omega, by omega, by omega, by omega, by omega, by omega, by omega, by omega, by omega, by omega, by omega, by omega, by omega, by omega, by omega, by omega, by omega, by omega, by omega, by omega, by omega, by omega, by omega, by omega, by omega, by omega, by omega, by omega, by omega, by omega, by omega, by omega, by omega, nm_e ?_⟩
  exact Exists.intro (L + 1) (rc_w10 xs L hL _ _ L 0 (L + 1) 0 0 0 0 1 (fun _ => 0) (fun _ _ => False) 1 _ _ _ _ _ _ _ _ _ _ _ _ _ _ _ _ _ _ _ _ _ _ _ (by omega) (by omega) (by omega) (rc_PS_0 _ _ _ _) (by omega) rc_WF_0)
end
