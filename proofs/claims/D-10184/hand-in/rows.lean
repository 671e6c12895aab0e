section
/-- the tree: n nodes, parents p, depths dp -/
def tw_T (n : Nat) (p dp : Nat → Nat) : Prop :=
  0 < n ∧ n ≤ 24 ∧ dp 0 = 0 ∧ ∀ v, 0 < v → v < n → p v < n ∧ dp v = dp (p v) + 1
/-- the j-th node above u -/
def tw_ja (p : Nat → Nat) : Nat → Nat → Nat
  | 0, u => u
  | j + 1, u => tw_ja p j (p u)
/-- the node above u at depth k -/
def tw_ak (p dp : Nat → Nat) (u k : Nat) : Nat := tw_ja p (dp u - k) u
theorem tw_ja_dp {n : Nat} {p dp : Nat → Nat} (T : tw_T n p dp) : ∀ j u, u < n → j ≤ dp u → tw_ja p j u < n ∧ dp (tw_ja p j u) = dp u - j := by
  intro j
  induction j with
  | zero => intro u hu _; exact ⟨hu, rfl⟩
  | succ j ih =>
    intro u hu hj
    have h0 : 0 < u := by
      rcases Nat.eq_zero_or_pos u with z | z
      · rw [z, T.2.2.1] at hj; omega
      · exact z
    obtain ⟨h1, h2⟩ := T.2.2.2 u h0 hu
    obtain ⟨h3, h4⟩ := ih (p u) h1 (by omega)
    exact ⟨h3, by show dp (tw_ja p j (p u)) = _; omega⟩
theorem tw_ja_add (p : Nat → Nat) : ∀ i j u, tw_ja p (i + j) u = tw_ja p j (tw_ja p i u) := by
  intro i
  induction i with
  | zero => intro j u; rw [Nat.zero_add]; rfl
  | succ i ih => intro j u; rw [Nat.add_right_comm]; exact ih j (p u)
theorem tw_dp_pos {n : Nat} {p dp : Nat → Nat} (T : tw_T n p dp) {v : Nat} (h0 : 0 < v) (h : v < n) : 0 < dp v := by
  have := (T.2.2.2 v h0 h).2
  omega
theorem tw_ak_lt {n : Nat} {p dp : Nat → Nat} (T : tw_T n p dp) {u k : Nat} (hu : u < n) (hk : k ≤ dp u) : tw_ak p dp u k < n ∧ dp (tw_ak p dp u k) = k := by
  obtain ⟨h1, h2⟩ := tw_ja_dp T (dp u - k) u hu (by omega)
  exact ⟨h1, by unfold tw_ak; omega⟩
theorem tw_ak_self (p dp : Nat → Nat) (u : Nat) : tw_ak p dp u (dp u) = u := by
  unfold tw_ak
  rw [Nat.sub_self]
  rfl
theorem tw_ak_p {n : Nat} {p dp : Nat → Nat} (T : tw_T n p dp) {u k : Nat} (h0 : 0 < u) (hu : u < n) (hk : k ≤ dp (p u)) : tw_ak p dp u k = tw_ak p dp (p u) k := by
  have h := (T.2.2.2 u h0 hu).2
  unfold tw_ak
  rw [show dp u - k = (dp (p u) - k) + 1 by omega]
  rfl
theorem tw_ak_ak {n : Nat} {p dp : Nat → Nat} (T : tw_T n p dp) {u j k : Nat} (hu : u < n) (hj : j ≤ k) (hk : k ≤ dp u) : tw_ak p dp (tw_ak p dp u k) j = tw_ak p dp u j := by
  have h := (tw_ak_lt T hu hk).2
  show tw_ja p (dp (tw_ak p dp u k) - j) (tw_ak p dp u k) = tw_ja p (dp u - j) u
  rw [h]
  show tw_ja p (k - j) (tw_ja p (dp u - k) u) = _
  rw [← tw_ja_add, show dp u - k + (k - j) = dp u - j by omega]
theorem tw_ak_0 {n : Nat} {p dp : Nat → Nat} (T : tw_T n p dp) {u : Nat} (hu : u < n) : tw_ak p dp u 0 = 0 := by
  obtain ⟨h1, h2⟩ := tw_ak_lt T hu (Nat.zero_le (dp u))
  rcases Nat.eq_zero_or_pos (tw_ak p dp u 0) with z | z
  · exact z
  · have := tw_dp_pos T z h1
    omega
theorem tw_ak_s {n : Nat} {p dp : Nat → Nat} (T : tw_T n p dp) {u k : Nat} (hk : k + 1 ≤ dp u) : p (tw_ak p dp u (k + 1)) = tw_ak p dp u k := by
  unfold tw_ak
  rw [show dp u - k = (dp u - (k + 1)) + 1 by omega, tw_ja_add]
  rfl
/-- the last place at which two rows agree -/
def tw_c (f g : Nat → Nat) : Nat → Nat
  | 0 => 0
  | k + 1 => if f (k + 1) = g (k + 1) then k + 1 else tw_c f g k
theorem tw_c_iff {f g : Nat → Nat} (h0 : f 0 = g 0) : ∀ m, (∀ j k, j ≤ k → k ≤ m → f k = g k → f j = g j) → ∀ k, (k ≤ tw_c f g m ↔ k ≤ m ∧ f k = g k) := by
  intro m
  induction m with
  | zero =>
    intro _ k
    show k ≤ 0 ↔ _
    constructor
    · intro z
      have e : k = 0 := by omega
      rw [e]
      exact ⟨Nat.le_refl 0, h0⟩
    · exact fun z => z.1
  | succ m ih =>
    intro hp k
    have ih' := ih (fun j k a b c => hp j k a (by omega) c) k
    show k ≤ (if f (m + 1) = g (m + 1) then m + 1 else tw_c f g m) ↔ _
    by_cases e : f (m + 1) = g (m + 1)
    · rw [if_pos e]
      exact ⟨fun z => ⟨z, hp k (m + 1) z (Nat.le_refl _) e⟩, fun z => z.1⟩
    · rw [if_neg e, ih']
      constructor
      · exact fun z => ⟨by omega, z.2⟩
      · intro z
        refine ⟨?_, z.2⟩
        rcases Nat.lt_or_ge m k with q | q
        · have e' : k = m + 1 := by omega
          rw [e'] at z
          exact absurd z.2 e
        · exact q
/-- the depth of the fork of two nodes -/
def tw_l (p dp : Nat → Nat) (u v : Nat) : Nat := tw_c (tw_ak p dp u) (tw_ak p dp v) (min (dp u) (dp v))
theorem tw_l_iff {n : Nat} {p dp : Nat → Nat} (T : tw_T n p dp) {u v : Nat} (hu : u < n) (hv : v < n) (k : Nat) : k ≤ tw_l p dp u v ↔ k ≤ dp u ∧ k ≤ dp v ∧ tw_ak p dp u k = tw_ak p dp v k := by
  unfold tw_l
  rw [tw_c_iff (by rw [tw_ak_0 T hu, tw_ak_0 T hv]) _ ?_ k]
  · constructor
    · exact fun z => ⟨by omega, by omega, z.2⟩
    · exact fun z => ⟨by omega, z.2.2⟩
  · intro j k hj hk e
    rw [← tw_ak_ak T hu hj (by omega), ← tw_ak_ak T hv hj (by omega), e]
theorem tw_l_comm {n : Nat} {p dp : Nat → Nat} (T : tw_T n p dp) {u v : Nat} (hu : u < n) (hv : v < n) : tw_l p dp u v = tw_l p dp v u := by
  apply Nat.le_antisymm
  · have h := (tw_l_iff T hu hv _).mp (Nat.le_refl _)
    exact (tw_l_iff T hv hu _).mpr ⟨h.2.1, h.1, h.2.2.symm⟩
  · have h := (tw_l_iff T hv hu _).mp (Nat.le_refl _)
    exact (tw_l_iff T hu hv _).mpr ⟨h.2.1, h.1, h.2.2.symm⟩
theorem tw_l_self {n : Nat} {p dp : Nat → Nat} (T : tw_T n p dp) {u : Nat} (hu : u < n) : tw_l p dp u u = dp u := by
  apply Nat.le_antisymm
  · exact ((tw_l_iff T hu hu _).mp (Nat.le_refl _)).1
  · exact (tw_l_iff T hu hu _).mpr ⟨Nat.le_refl _, Nat.le_refl _, rfl⟩
theorem tw_l_le {n : Nat} {p dp : Nat → Nat} (T : tw_T n p dp) {u v : Nat} (hu : u < n) (hv : v < n) : tw_l p dp u v ≤ dp u ∧ tw_l p dp u v ≤ dp v := by
  have h := (tw_l_iff T hu hv _).mp (Nat.le_refl _)
  exact ⟨h.1, h.2.1⟩
theorem tw_l_ult {n : Nat} {p dp : Nat → Nat} (T : tw_T n p dp) {a b c : Nat} (ha : a < n) (hb : b < n) (hc : c < n) : tw_l p dp a b ≤ tw_l p dp a c ∨ tw_l p dp b c ≤ tw_l p dp a c := by
  have key : ∀ k, k ≤ tw_l p dp a b → k ≤ tw_l p dp b c → k ≤ tw_l p dp a c := by
    intro k h1 h2
    have h1 := (tw_l_iff T ha hb k).mp h1
    have h2 := (tw_l_iff T hb hc k).mp h2
    exact (tw_l_iff T ha hc k).mpr ⟨h1.1, h2.2.1, h1.2.2.trans h2.2.2⟩
  rcases Nat.le_total (tw_l p dp a b) (tw_l p dp b c) with z | z
  · exact Or.inl (key _ (Nat.le_refl _) z)
  · exact Or.inr (key _ z (Nat.le_refl _))
/-- a node whose fork with s is itself is the node above s at its depth -/
theorem tw_l_anc {n : Nat} {p dp : Nat → Nat} (T : tw_T n p dp) {s c : Nat} (hs : s < n) (hc : c < n) (h : tw_l p dp s c = dp c) : tw_ak p dp s (dp c) = c := by
  have h := ((tw_l_iff T hs hc (dp c)).mp (by omega)).2.2
  rw [h, tw_ak_self]
theorem tw_anc_l {n : Nat} {p dp : Nat → Nat} (T : tw_T n p dp) {s k : Nat} (hs : s < n) (hk : k ≤ dp s) : tw_l p dp s (tw_ak p dp s k) = k := by
  obtain ⟨h1, h2⟩ := tw_ak_lt T hs hk
  apply Nat.le_antisymm
  · have := (tw_l_le T hs h1).2
    omega
  · refine (tw_l_iff T hs h1 k).mpr ⟨hk, by omega, ?_⟩
    rw [tw_ak_ak T hs (Nat.le_refl k) hk]
theorem tw_l_par {n : Nat} {p dp : Nat → Nat} (T : tw_T n p dp) {s c : Nat} (hs : s < n) (h0 : 0 < c) (hc : c < n) : tw_l p dp s (p c) = min (tw_l p dp s c) (dp (p c)) := by
  obtain ⟨h1, h2⟩ := T.2.2.2 c h0 hc
  apply Nat.le_antisymm
  · have h := (tw_l_iff T hs h1 _).mp (Nat.le_refl _)
    have : tw_l p dp s (p c) ≤ tw_l p dp s c := (tw_l_iff T hs hc _).mpr ⟨h.1, by omega, by rw [tw_ak_p T h0 hc h.2.1]; exact h.2.2⟩
    omega
  · have h := (tw_l_iff T hs hc (min (tw_l p dp s c) (dp (p c)))).mp (by omega)
    refine (tw_l_iff T hs h1 _).mpr ⟨h.1, by omega, ?_⟩
    rw [← tw_ak_p T h0 hc (by omega)]
    exact h.2.2
/-- the way between two nodes: its length -/
def tw_d (p dp : Nat → Nat) (u v : Nat) : Nat := dp u + dp v - 2 * tw_l p dp u v
/-- x lies on the way from s to t -/
def tw_b (p dp : Nat → Nat) (s x t : Nat) : Prop := tw_d p dp s x + tw_d p dp x t = tw_d p dp s t
theorem tw_d_comm {n : Nat} {p dp : Nat → Nat} (T : tw_T n p dp) {u v : Nat} (hu : u < n) (hv : v < n) : tw_d p dp u v = tw_d p dp v u := by
  unfold tw_d
  rw [tw_l_comm T hu hv, Nat.add_comm (dp u)]
theorem tw_d_self {n : Nat} {p dp : Nat → Nat} (T : tw_T n p dp) {u : Nat} (hu : u < n) : tw_d p dp u u = 0 := by
  unfold tw_d
  rw [tw_l_self T hu]
  omega
theorem tw_d_0 {n : Nat} {p dp : Nat → Nat} (T : tw_T n p dp) {u v : Nat} (hu : u < n) (hv : v < n) (h : tw_d p dp u v = 0) : u = v := by
  have h1 := tw_l_le T hu hv
  unfold tw_d at h
  have e1 : tw_l p dp u v = dp v := by omega
  have e2 : dp u = dp v := by omega
  have := tw_l_anc T hu hv e1
  rw [← e2, tw_ak_self] at this
  exact this
theorem tw_tri {n : Nat} {p dp : Nat → Nat} (T : tw_T n p dp) {s x t : Nat} (hs : s < n) (hx : x < n) (ht : t < n) : tw_d p dp s t ≤ tw_d p dp s x + tw_d p dp x t := by
  have h1 := tw_l_ult T hs hx ht
  have h2 := tw_l_le T hs hx
  have h3 := tw_l_le T hx ht
  have h4 := tw_l_le T hs ht
  unfold tw_d
  omega
theorem tw_m1' (s x t u sx xt st su ux ut : Nat) (a1 : sx ≤ s) (a2 : sx ≤ x) (a3 : xt ≤ x) (a4 : xt ≤ t) (a5 : st ≤ s) (a6 : st ≤ t) (a7 : su ≤ s) (a8 : su ≤ u) (a9 : ux ≤ u) (a10 : ux ≤ x) (a11 : ut ≤ u) (a12 : ut ≤ t)
    (b1 : sx ≤ st ∨ xt ≤ st) (b4 : su ≤ sx ∨ ux ≤ sx) (b5 : sx ≤ su ∨ ux ≤ su) (b6 : sx ≤ ux ∨ su ≤ ux)
    (b7 : ux ≤ ut ∨ xt ≤ ut) (b8 : ux ≤ xt ∨ ut ≤ xt) (b9 : xt ≤ ux ∨ ut ≤ ux) (b10 : st ≤ su ∨ ut ≤ su) (b11 : su ≤ st ∨ ut ≤ st) (b12 : su ≤ ut ∨ st ≤ ut)
    (h : (s + x - 2 * sx) + (x + t - 2 * xt) = s + t - 2 * st) : (s + x - 2 * sx) + (x + u - 2 * ux) = s + u - 2 * su ∨ (u + x - 2 * ux) + (x + t - 2 * xt) = u + t - 2 * ut := by
  omega
theorem tw_m1 {n : Nat} {p dp : Nat → Nat} (T : tw_T n p dp) {s x t u : Nat} (hs : s < n) (hx : x < n) (ht : t < n) (hu : u < n) (h : tw_b p dp s x t) : tw_b p dp s x u ∨ tw_b p dp u x t := by
  have cx := tw_l_comm T hx hu
  have cs := tw_l_comm T hx hs
  have cu := tw_l_comm T hu hs
  have ct := tw_l_comm T ht hu
  have c5 := tw_l_comm T ht hx
  have c6 := tw_l_comm T ht hs
  have b1 := tw_l_ult T hs hx ht
  have b4 := tw_l_ult T hs hu hx
  have b5 := tw_l_ult T hs hx hu
  have b6 := tw_l_ult T hu hs hx
  have b7 := tw_l_ult T hu hx ht
  have b8 := tw_l_ult T hx hu ht
  have b9 := tw_l_ult T hu ht hx
  have b10 := tw_l_ult T hs ht hu
  have b11 := tw_l_ult T hs hu ht
  have b12 := tw_l_ult T hu hs ht
  have a1 := tw_l_le T hs hx
  have a2 := tw_l_le T hx ht
  have a3 := tw_l_le T hs ht
  have a4 := tw_l_le T hs hu
  have a5 := tw_l_le T hu hx
  have a6 := tw_l_le T hu ht
  unfold tw_b tw_d at *
  rw [cx]
  refine tw_m1' (dp s) (dp x) (dp t) (dp u) _ _ _ _ _ _ a1.1 a1.2 a2.1 a2.2 a3.1 a3.2 a4.1 a4.2 a5.1 a5.2 a6.1 a6.2 b1 b4 (by rw [cx] at b5; exact b5) (by rw [cu] at b6; omega) b7 ?_ (by rw [c5] at b9; omega) (by rw [ct] at b10; exact b10) b11 (by rw [cu] at b12; exact b12) h
  rw [cx] at b8; exact b8
end
section
/-- neighbours in the tree -/
def tw_nb (n : Nat) (p : Nat → Nat) (u w : Nat) : Prop := (0 < u ∧ w = p u) ∨ (0 < w ∧ w < n ∧ p w = u)
theorem tw_nb_lt {n : Nat} {p dp : Nat → Nat} (T : tw_T n p dp) {u w : Nat} (hu : u < n) (h : tw_nb n p u w) : w < n := by
  rcases h with h | h
  · rw [h.2]
    exact (T.2.2.2 u h.1 hu).1
  · exact h.2.1
theorem tw_nb_sym {n : Nat} {p dp : Nat → Nat} (T : tw_T n p dp) {u w : Nat} (hu : u < n) (h : tw_nb n p u w) : tw_nb n p w u := by
  rcases h with h | h
  · exact Or.inr ⟨h.1, hu, h.2.symm⟩
  · exact Or.inl ⟨h.1, h.2.2.symm⟩
/-- a child and its parent: one farther or one nearer -/
theorem tw_n1c {n : Nat} {p dp : Nat → Nat} (T : tw_T n p dp) {s c : Nat} (hs : s < n) (h0 : 0 < c) (hc : c < n) :
    (tw_l p dp s c = tw_l p dp s (p c) ∧ tw_d p dp s c = tw_d p dp s (p c) + 1) ∨ (tw_l p dp s c = dp c ∧ tw_l p dp s (p c) = dp (p c) ∧ tw_d p dp s c + 1 = tw_d p dp s (p c)) := by
  have h := tw_l_par T hs h0 hc
  have h2 := T.2.2.2 c h0 hc
  have h3 := tw_l_le T hs hc
  have h4 := tw_l_le T hs h2.1
  unfold tw_d
  omega
theorem tw_n1 {n : Nat} {p dp : Nat → Nat} (T : tw_T n p dp) {s u w : Nat} (hs : s < n) (hu : u < n) (h : tw_nb n p u w) : tw_d p dp s w = tw_d p dp s u + 1 ∨ tw_d p dp s w + 1 = tw_d p dp s u := by
  rcases h with h | h
  · have := tw_n1c T hs h.1 hu
    rw [h.2]
    omega
  · have := tw_n1c T hs h.1 h.2.1
    rw [h.2.2] at this
    omega
theorem tw_n2 {n : Nat} {p dp : Nat → Nat} (T : tw_T n p dp) {s u w w' : Nat} (hs : s < n) (hu : u < n) (h : tw_nb n p u w) (h' : tw_nb n p u w') (e : tw_d p dp s w + 1 = tw_d p dp s u) (e' : tw_d p dp s w' + 1 = tw_d p dp s u) : w = w' := by
  rcases h with h | h
  · rcases h' with h' | h'
    · rw [h.2, h'.2]
    · have a := tw_n1c T hs h.1 hu
      have b := tw_n1c T hs h'.1 h'.2.1
      rw [h'.2.2] at b
      rw [h.2] at e
      have c := T.2.2.2 u h.1 hu
      have c2 := tw_l_le T hs c.1
      omega
  · rcases h' with h' | h'
    · have a := tw_n1c T hs h'.1 hu
      have b := tw_n1c T hs h.1 h.2.1
      rw [h.2.2] at b
      rw [h'.2] at e'
      have c := T.2.2.2 u h'.1 hu
      have c2 := tw_l_le T hs c.1
      omega
    · have a := tw_n1c T hs h.1 h.2.1
      have b := tw_n1c T hs h'.1 h'.2.1
      have ea : tw_l p dp s w = dp w := by rw [h.2.2] at a; omega
      have eb : tw_l p dp s w' = dp w' := by rw [h'.2.2] at b; omega
      have da := (T.2.2.2 w h.1 h.2.1).2
      have db := (T.2.2.2 w' h'.1 h'.2.1).2
      rw [h.2.2] at da
      rw [h'.2.2] at db
      have := tw_l_anc T hs h.2.1 ea
      rw [← this, da, ← db]
      exact tw_l_anc T hs h'.2.1 eb
theorem tw_n3 {n : Nat} {p dp : Nat → Nat} (T : tw_T n p dp) {s u : Nat} (hs : s < n) (hu : u < n) (hne : u ≠ s) : ∃ w, tw_nb n p u w ∧ w < n ∧ tw_d p dp s w + 1 = tw_d p dp s u := by
  have hl := tw_l_le T hs hu
  by_cases e : tw_l p dp s u = dp u
  · have hlt : dp u < dp s := by
      rcases Nat.lt_or_ge (dp u) (dp s) with z | z
      · exact z
      · have : tw_d p dp s u = 0 := by unfold tw_d; omega
        exact absurd (tw_d_0 T hs hu this).symm hne
    have ha := tw_l_anc T hs hu e
    have hp : p (tw_ak p dp s (dp u + 1)) = u := by rw [tw_ak_s T hlt, ha]
    obtain ⟨h1, h2⟩ := tw_ak_lt T hs hlt
    have h0 : 0 < tw_ak p dp s (dp u + 1) := by
      rcases Nat.eq_zero_or_pos (tw_ak p dp s (dp u + 1)) with z | z
      · rw [z, T.2.2.1] at h2; omega
      · exact z
    refine ⟨_, Or.inr ⟨h0, h1, hp⟩, h1, ?_⟩
    have hm := tw_anc_l T hs hlt
    unfold tw_d
    rw [show tw_l p dp s (tw_ak p dp s (dp u + 1)) = dp u + 1 from hm, show dp (tw_ak p dp s (dp u + 1)) = dp u + 1 from h2]
    omega
  · have h0 : 0 < u := by
      rcases Nat.eq_zero_or_pos u with z | z
      · rw [z, T.2.2.1] at hl; rw [z, T.2.2.1] at e; omega
      · exact z
    have h := tw_n1c T hs h0 hu
    refine ⟨p u, Or.inl ⟨h0, rfl⟩, (T.2.2.2 u h0 hu).1, ?_⟩
    omega
theorem tw_n4 {n : Nat} {p dp : Nat → Nat} (T : tw_T n p dp) {s x u w : Nat} (hs : s < n) (hx : x < n) (hu : u < n) (hw : tw_nb n p u w) (e : tw_d p dp s w + 1 = tw_d p dp s u) (h : tw_b p dp s x u) (hne : x ≠ u) : tw_b p dp s x w := by
  obtain ⟨w', h1, h2, h3⟩ := tw_n3 T hx hu (fun z => hne z.symm)
  have t := tw_tri T hs hx h2
  unfold tw_b at *
  have := tw_n1 T hs hu h1
  have : tw_d p dp s w' + 1 = tw_d p dp s u := by omega
  have := tw_n2 T hs hu hw h1 e this
  rw [this]
  omega
/-- as many different nodes as places -/
theorem tw_pig : ∀ n m (f : Nat → Nat), (∀ j, j < m → f j < n) → (∀ i j, i < m → j < m → f i = f j → i = j) → m ≤ n := by
  intro n
  induction n with
  | zero =>
    intro m f h _
    rcases Nat.eq_zero_or_pos m with z | z
    · omega
    · exact absurd (h 0 z) (by omega)
  | succ n ih =>
    intro m f h hi
    by_cases e : ∃ j, j < m ∧ f j = n
    · obtain ⟨j, hj, ej⟩ := e
      have : m - 1 ≤ n := by
        refine ih (m - 1) (fun i => if i = j then f (m - 1) else f i) ?_ ?_
        · intro i hi'
          show (if i = j then f (m - 1) else f i) < n
          by_cases q : i = j
          · rw [if_pos q]
            have a := h (m - 1) (by omega)
            have b : f (m - 1) ≠ n := fun z => by
              have := hi (m - 1) j (by omega) hj (z.trans ej.symm)
              omega
            omega
          · rw [if_neg q]
            have a := h i (by omega)
            have b : f i ≠ n := fun z => q (hi i j (by omega) hj (z.trans ej.symm))
            omega
        · intro i i' h1 h2 h3
          have h3 : (if i = j then f (m - 1) else f i) = (if i' = j then f (m - 1) else f i') := h3
          by_cases q : i = j
          · by_cases q' : i' = j
            · omega
            · rw [if_pos q, if_neg q'] at h3
              have := hi _ _ (by omega) (by omega) h3
              omega
          · by_cases q' : i' = j
            · rw [if_neg q, if_pos q'] at h3
              have := hi _ _ (by omega) (by omega) h3
              omega
            · rw [if_neg q, if_neg q'] at h3
              exact hi _ _ (by omega) (by omega) h3
      omega
    · have : m ≤ n := by
        refine ih m f (fun j hj => ?_) hi
        have a := h j hj
        have b : f j ≠ n := fun z => e ⟨j, hj, z⟩
        omega
      omega
theorem tw_d_lt {n : Nat} {p dp : Nat → Nat} (T : tw_T n p dp) {u v : Nat} (hu : u < n) (hv : v < n) : tw_d p dp u v + 1 ≤ n := by
  have hl := tw_l_le T hu hv
  have hd : tw_d p dp u v = dp u - tw_l p dp u v + (dp v - tw_l p dp u v) := by unfold tw_d; omega
  refine tw_pig n _ (fun j => if j ≤ dp u - tw_l p dp u v then tw_ak p dp u (tw_l p dp u v + j) else tw_ak p dp v (tw_l p dp u v + (j - (dp u - tw_l p dp u v)))) ?_ ?_
  · intro j hj
    show (if _ then _ else _) < n
    by_cases q : j ≤ dp u - tw_l p dp u v
    · rw [if_pos q]
      exact (tw_ak_lt T hu (by omega)).1
    · rw [if_neg q]
      exact (tw_ak_lt T hv (by omega)).1
  · intro i j hi hj h
    have h : (if i ≤ dp u - tw_l p dp u v then tw_ak p dp u (tw_l p dp u v + i) else tw_ak p dp v (tw_l p dp u v + (i - (dp u - tw_l p dp u v)))) = (if j ≤ dp u - tw_l p dp u v then tw_ak p dp u (tw_l p dp u v + j) else tw_ak p dp v (tw_l p dp u v + (j - (dp u - tw_l p dp u v)))) := h
    by_cases q : i ≤ dp u - tw_l p dp u v
    · by_cases q' : j ≤ dp u - tw_l p dp u v
      · rw [if_pos q, if_pos q'] at h
        have a := (tw_ak_lt T hu (k := tw_l p dp u v + i) (by omega)).2
        have b := (tw_ak_lt T hu (k := tw_l p dp u v + j) (by omega)).2
        rw [h] at a
        omega
      · rw [if_pos q, if_neg q'] at h
        have a := (tw_ak_lt T hu (k := tw_l p dp u v + i) (by omega)).2
        have b := (tw_ak_lt T hv (k := tw_l p dp u v + (j - (dp u - tw_l p dp u v))) (by omega)).2
        have c : tw_l p dp u v + i = tw_l p dp u v + (j - (dp u - tw_l p dp u v)) := by rw [h] at a; omega
        rw [← c] at h
        have := (tw_l_iff T hu hv (tw_l p dp u v + i)).mpr ⟨by omega, by omega, h⟩
        omega
    · by_cases q' : j ≤ dp u - tw_l p dp u v
      · rw [if_neg q, if_pos q'] at h
        have a := (tw_ak_lt T hu (k := tw_l p dp u v + j) (by omega)).2
        have b := (tw_ak_lt T hv (k := tw_l p dp u v + (i - (dp u - tw_l p dp u v))) (by omega)).2
        have c : tw_l p dp u v + j = tw_l p dp u v + (i - (dp u - tw_l p dp u v)) := by rw [h] at b; omega
        rw [← c] at h
        have := (tw_l_iff T hu hv (tw_l p dp u v + j)).mpr ⟨by omega, by omega, h.symm⟩
        omega
      · rw [if_neg q, if_neg q'] at h
        have a := (tw_ak_lt T hv (k := tw_l p dp u v + (i - (dp u - tw_l p dp u v))) (by omega)).2
        have b := (tw_ak_lt T hv (k := tw_l p dp u v + (j - (dp u - tw_l p dp u v))) (by omega)).2
        rw [h] at a
        omega
theorem tw_dp_lt {n : Nat} {p dp : Nat → Nat} (T : tw_T n p dp) {u : Nat} (hu : u < n) : dp u < n := by
  have h := tw_d_lt T hu T.1
  have h2 := tw_l_le T hu T.1
  unfold tw_d at h
  rw [T.2.2.1] at h h2
  omega
/-- the farthest from the top: no way is longer than one from it -/
theorem tw_wide {n : Nat} {p dp : Nat → Nat} (T : tw_T n p dp) {f u x : Nat} (hf : f < n) (hu : u < n) (hx : x < n) (h : ∀ v, v < n → dp v ≤ dp f) : tw_d p dp u x ≤ tw_d p dp f u ∨ tw_d p dp u x ≤ tw_d p dp f x := by
  have a := tw_l_ult T hu hf hx
  rw [tw_l_comm T hu hf] at a
  have b := h u hu
  have c := h x hx
  have e1 := tw_l_le T hf hu
  have e2 := tw_l_le T hf hx
  have e3 := tw_l_le T hu hx
  unfold tw_d
  omega
/-- the fork of two nodes -/
def tw_f (p dp : Nat → Nat) (u v : Nat) : Nat := tw_ak p dp u (tw_l p dp u v)
theorem tw_f_comm {n : Nat} {p dp : Nat → Nat} (T : tw_T n p dp) {u v : Nat} (hu : u < n) (hv : v < n) : tw_f p dp u v = tw_f p dp v u := by
  unfold tw_f
  rw [tw_l_comm T hv hu]
  exact ((tw_l_iff T hu hv _).mp (Nat.le_refl _)).2.2
theorem tw_f_dp {n : Nat} {p dp : Nat → Nat} (T : tw_T n p dp) {u v : Nat} (hu : u < n) (hv : v < n) : tw_f p dp u v < n ∧ dp (tw_f p dp u v) = tw_l p dp u v :=
  tw_ak_lt T hu (tw_l_le T hu hv).1
/-- a node that is above a and not above the fork of a and b: the fork is that of it and b -/
theorem tw_f_up {n : Nat} {p dp : Nat → Nat} (T : tw_T n p dp) {a b k : Nat} (ha : a < n) (hb : b < n) (hk : k ≤ dp a) (h : tw_l p dp a b ≤ k) : tw_f p dp (tw_ak p dp a k) b = tw_f p dp a b := by
  obtain ⟨h1, h2⟩ := tw_ak_lt T ha hk
  have e : tw_l p dp (tw_ak p dp a k) b = tw_l p dp a b := by
    apply Nat.le_antisymm
    · have z := (tw_l_iff T h1 hb _).mp (Nat.le_refl _)
      refine (tw_l_iff T ha hb _).mpr ⟨by omega, z.2.1, ?_⟩
      rw [← z.2.2, tw_ak_ak T ha (by omega) hk]
    · have z := (tw_l_iff T ha hb _).mp (Nat.le_refl _)
      refine (tw_l_iff T h1 hb _).mpr ⟨by omega, z.2.1, ?_⟩
      rw [tw_ak_ak T ha h hk]
      exact z.2.2
  unfold tw_f
  rw [e, tw_ak_ak T ha h hk]
end
section
/-- how many places are under a node of the tree over the row -/
def tw_w (k : Nat) : Int32 := if k < 2 then 32 else if k < 4 then 16 else if k < 8 then 8 else if k < 16 then 4 else if k < 32 then 2 else 1
theorem tw_w2 : ∀ k, k < 32 → 1 ≤ k → tw_w k = tw_w (2 * k) + tw_w (2 * k) ∧ tw_w (2 * k + 1) = tw_w (2 * k) := by decide +kernel
theorem tw_w_lv : ∀ i, i < 6 → ∀ k, k < 64 → 2 ^ (5 - i) ≤ k → k < 2 ^ (6 - i) → tw_w k = nI (2 ^ i) := by decide +kernel
theorem tw_wh {j k : Nat} (hk : k < 32) (h1 : 1 ≤ k) (h : j / 2 = k) : tw_w j = tw_w (2 * k) := by
  have a := tw_w2 k hk h1
  rcases Nat.mod_two_eq_zero_or_one j with z | z
  · rw [show j = 2 * k by omega]
  · rw [show j = 2 * k + 1 by omega]
    exact a.2
def tw_g (P : Nat → Int32) (j : Nat) : Int32 := if j = 0 then 0 else P j
/-- what is pending strictly above a node -/
def tw_Q (P : Nat → Int32) (k : Nat) : Int32 := tw_g P (k / 2) + (tw_g P (k / 4) + (tw_g P (k / 8) + (tw_g P (k / 16) + tw_g P (k / 32))))
theorem tw_Q_rec (P : Nat → Int32) {k : Nat} (h : k < 64) : tw_Q P k = tw_Q P (k / 2) + tw_g P (k / 2) := by
  unfold tw_Q
  rw [Nat.div_div_eq_div_mul, Nat.div_div_eq_div_mul, Nat.div_div_eq_div_mul, Nat.div_div_eq_div_mul, Nat.div_div_eq_div_mul]
  have e : tw_g P (k / (2 * 32)) = 0 := by rw [show k / (2 * 32) = 0 by omega]; rfl
  rw [e]
  show _ = tw_g P (k / 4) + (tw_g P (k / 8) + (tw_g P (k / 16) + (tw_g P (k / 32) + 0))) + tw_g P (k / 2)
  grind
/-- the law of a node: its sum is that of the two below and what is pending on it -/
def tw_J (S P : Nat → Int32) (k : Nat) : Prop := S k = S (2 * k) + S (2 * k + 1) + tw_w k * P k
/-- the true sum under a node -/
def tw_E (S P : Nat → Int32) (k : Nat) : Int32 := S k + tw_w k * tw_Q P k
theorem tw_E2 {S P : Nat → Int32} {k : Nat} (h1 : 1 ≤ k) (hk : k < 32) (h : tw_J S P k) : tw_E S P k = tw_E S P (2 * k) + tw_E S P (2 * k + 1) := by
  have a := tw_w2 k hk h1
  have b := tw_Q_rec P (k := 2 * k) (by omega)
  have c := tw_Q_rec P (k := 2 * k + 1) (by omega)
  rw [show 2 * k / 2 = k by omega] at b
  rw [show (2 * k + 1) / 2 = k by omega] at c
  have g : tw_g P k = P k := by unfold tw_g; rw [if_neg (by omega)]
  rw [g] at b c
  unfold tw_J at h
  unfold tw_E
  rw [a.2, b, c, h, a.1]
  grind
theorem tw_Q_push {P P' : Nat → Int32} {k : Nat} (h1 : 1 ≤ k) (hP : ∀ j, P' j = if j = k then 0 else if j / 2 = k then P j + P k else P j) : ∀ m j, j < m → j < 64 → tw_Q P' j = if j / 2 = k then tw_Q P j - P k else tw_Q P j := by
  intro m
  induction m with
  | zero => intro j h; omega
  | succ m ih =>
    intro j hj h64
    rcases Nat.eq_zero_or_pos (j / 2) with z | z
    · rw [if_neg (by omega), tw_Q_rec P' h64, tw_Q_rec P h64, z]
      rfl
    · have i := ih (j / 2) (by omega) (by omega)
      rw [tw_Q_rec P' h64, tw_Q_rec P h64, i]
      have g : tw_g P' (j / 2) = P' (j / 2) := by unfold tw_g; rw [if_neg (by omega)]
      have g2 : tw_g P (j / 2) = P (j / 2) := by unfold tw_g; rw [if_neg (by omega)]
      rw [g, g2, hP (j / 2)]
      by_cases e : j / 2 = k
      · rw [if_pos e, if_pos e, if_neg (by omega), e]
        grind
      · rw [if_neg e, if_neg e]
        by_cases e2 : j / 2 / 2 = k
        · rw [if_pos e2, if_pos e2]
          grind
        · rw [if_neg e2, if_neg e2]
theorem tw_push {S P S' P' : Nat → Int32} {k : Nat} (h1 : 1 ≤ k) (hk : k < 32)
    (hS : ∀ j, S' j = if j / 2 = k then S j + tw_w (2 * k) * P k else S j)
    (hP : ∀ j, P' j = if j = k then 0 else if j / 2 = k then P j + P k else P j)
    (h : ∀ j, 1 ≤ j → j < 32 → tw_J S P j) : (∀ j, 1 ≤ j → j < 32 → tw_J S' P' j) ∧ ∀ j, j < 64 → tw_E S' P' j = tw_E S P j := by
  have w := tw_w2 k hk h1
  constructor
  · intro j j1 j2
    have hj := h j j1 j2
    unfold tw_J at *
    rw [hS j, hS (2 * j), hS (2 * j + 1), hP j, show 2 * j / 2 = j by omega, show (2 * j + 1) / 2 = j by omega]
    by_cases e : j = k
    · rw [if_pos e, if_pos e, if_pos e, if_neg (by omega)]
      subst e
      rw [hj, w.1]
      grind
    · rw [if_neg e, if_neg e, if_neg e]
      by_cases e2 : j / 2 = k
      · rw [if_pos e2, if_pos e2, hj, tw_wh hk h1 e2]
        grind
      · rw [if_neg e2, if_neg e2]
        exact hj
  · intro j hj
    unfold tw_E
    rw [hS j, tw_Q_push h1 hP (j + 1) j (by omega) hj]
    by_cases e : j / 2 = k
    · rw [if_pos e, if_pos e, tw_wh hk h1 e]
      grind
    · rw [if_neg e, if_neg e]
/-- a set of nodes with all above them -/
def tw_cl (Y : Nat → Prop) : Prop := ∀ j, 2 ≤ j → Y j → Y (j / 2)
theorem tw_Q_z {P : Nat → Int32} {Y : Nat → Prop} (hY : tw_cl Y) (hz : ∀ j, Y j → P j = 0) : ∀ m j, j < m → j < 64 → (j / 2 = 0 ∨ Y (j / 2)) → tw_Q P j = 0 := by
  intro m
  induction m with
  | zero => intro j h; omega
  | succ m ih =>
    intro j hj h64 h
    rcases Nat.eq_zero_or_pos (j / 2) with z | z
    · rw [tw_Q_rec P h64, z]
      rfl
    · have h' : Y (j / 2) := by
        rcases h with q | q
        · omega
        · exact q
      have g : tw_g P (j / 2) = P (j / 2) := by unfold tw_g; rw [if_neg (by omega)]
      rw [tw_Q_rec P h64, g, hz _ h', ih (j / 2) (by omega) (by omega) ?_]
      · rfl
      · by_cases q : 2 ≤ j / 2
        · exact Or.inr (hY _ q h')
        · exact Or.inl (by omega)
theorem tw_push_z {P P' : Nat → Int32} {Y : Nat → Prop} {k : Nat} (h1 : 1 ≤ k) (hY : tw_cl Y) (hP : ∀ j, P' j = if j = k then 0 else if j / 2 = k then P j + P k else P j) (hz : ∀ j, Y j → P j = 0) : ∀ j, Y j → P' j = 0 := by
  intro j hj
  rw [hP j]
  by_cases e : j = k
  · rw [if_pos e]
  · rw [if_neg e]
    by_cases e2 : j / 2 = k
    · have := hY j (by omega) hj
      rw [e2] at this
      rw [if_pos e2, hz j hj, hz k this]
      rfl
    · rw [if_neg e2, hz j hj]
/-- the nodes above a place -/
def tw_pa (a k : Nat) : Prop := ∃ s, 1 ≤ s ∧ s ≤ 5 ∧ k = (32 + a) / 2 ^ s
theorem tw_pa_s (a : Nat) {s : Nat} (h : 1 ≤ s) (h2 : s ≤ 5) : tw_pa a ((32 + a) / 2 ^ s) := ⟨s, h, h2, rfl⟩
theorem tw_pa_cl {a : Nat} (ha : a < 32) : tw_cl (tw_pa a) := by
  intro j hj ⟨s, h1, h2, h3⟩
  have : s ≠ 5 := by
    intro z
    rw [z] at h3
    omega
  refine ⟨s + 1, by omega, by omega, ?_⟩
  rw [h3, Nat.div_div_eq_div_mul, Nat.pow_succ]
theorem tw_raise_J {S P S' P' : Nat → Int32} {Z : Nat → Prop} {k : Nat} {x : Int32} 
    (hS : ∀ j, S' j = if j = k then S j + tw_w k * x else S j) (hP : ∀ j, P' j = if j = k then P j + x else P j) (hz : k / 2 = 0 ∨ Z (k / 2))
    (h : ∀ j, 1 ≤ j → j < 32 → ¬ Z j → tw_J S P j) : ∀ j, 1 ≤ j → j < 32 → ¬ Z j → tw_J S' P' j := by
  intro j j1 j2 j3
  have hj := h j j1 j2 j3
  have n1 : j ≠ k / 2 := by
    intro z
    rcases hz with q | q
    · omega
    · exact j3 (z ▸ q)
  unfold tw_J at *
  rw [hS j, hS (2 * j), hS (2 * j + 1), hP j, if_neg (show ¬ 2 * j = k by omega), if_neg (show ¬ 2 * j + 1 = k by omega)]
  by_cases e : j = k
  · rw [if_pos e, if_pos e, hj, e]
    grind
  · rw [if_neg e, if_neg e]
    exact hj
theorem tw_join_J {S P S' : Nat → Int32} {Z : Nat → Prop} {k : Nat} (h1 : 1 ≤ k) (hS : ∀ j, S' j = if j = k then S (2 * k) + S (2 * k + 1) + tw_w k * P k else S j)
    (h : ∀ j, 1 ≤ j → j < 32 → ¬ Z j → tw_J S P j) : ∀ j, 1 ≤ j → j < 32 → ¬ ((Z j ∨ j = k / 2) ∧ j ≠ k) → tw_J S' P j := by
  intro j j1 j2 j3
  unfold tw_J at *
  by_cases e : j = k
  · rw [hS j, hS (2 * j), hS (2 * j + 1), if_pos e, if_neg (by omega), if_neg (by omega), e]
  · have j4 : ¬ Z j := fun z => j3 ⟨Or.inl z, e⟩
    have j5 : ¬ j = k / 2 := fun z => j3 ⟨Or.inr z, e⟩
    rw [hS j, hS (2 * j), hS (2 * j + 1), if_neg e, if_neg (by omega), if_neg (by omega)]
    exact h j j1 j2 j4
/-- sums -/
def tw_s (f : Nat → Int32) : Nat → Int32
  | 0 => 0
  | m + 1 => tw_s f m + f m
theorem tw_s_pair {E : Nat → Int32} (h : ∀ q, 1 ≤ q → q < 32 → E q = E (2 * q) + E (2 * q + 1)) : ∀ q, 1 ≤ q → q ≤ 32 → tw_s E (2 * q) - tw_s E q = tw_s E 2 - tw_s E 1 := by
  intro q
  induction q with
  | zero => intro z; omega
  | succ q ih =>
    intro _ h2
    rcases Nat.eq_zero_or_pos q with z | z
    · rw [z]
    · have i := ih z (by omega)
      have e := h q z (by omega)
      show (tw_s E (2 * q) + E (2 * q) + E (2 * q + 1)) - (tw_s E q + E q) = _
      rw [← i, e]
      grind
theorem tw_s_half {E : Nat → Int32} (h : ∀ q, 1 ≤ q → q < 32 → E q = E (2 * q) + E (2 * q + 1)) {l r : Nat} (hl : 1 ≤ l) (hr : 1 ≤ r) (hl2 : l ≤ 32) (hr2 : r ≤ 32) : tw_s E (2 * r) - tw_s E (2 * l) = tw_s E r - tw_s E l := by
  have a := tw_s_pair h l hl hl2
  have b := tw_s_pair h r hr hr2
  grind
/-- the two ends of a stretch, level by level -/
def tw_lr (a b i l r : Nat) : Prop := (l = (32 + a) / 2 ^ i ∨ l = (32 + a) / 2 ^ i + 1) ∧ (r = (32 + b) / 2 ^ i ∨ r = (32 + b) / 2 ^ i + 1)
theorem tw_lr_s {a b i l r : Nat} (ha : a < 32) (hb : b < 32) (hi : i < 6) (h : tw_lr a b i l r) (hlr : l < r) :
    1 ≤ l ∧ l < 64 ∧ r ≤ 64 ∧ 2 ^ (5 - i) ≤ l ∧ r ≤ 2 ^ (6 - i) ∧ (l % 2 = 1 → l / 2 = 0 ∨ tw_pa a (l / 2)) ∧ (r % 2 = 1 → (r - 1) / 2 = 0 ∨ tw_pa b ((r - 1) / 2)) ∧ tw_lr a b (i + 1) ((l + l % 2) / 2) ((r - r % 2) / 2) ∧ (l + l % 2) / 2 ≤ (r - r % 2) / 2 ∧ 1 ≤ (l + l % 2) / 2 := by
  unfold tw_lr at *
  have hc : i = 0 ∨ i = 1 ∨ i = 2 ∨ i = 3 ∨ i = 4 ∨ i = 5 := by omega
  rcases hc with e | e | e | e | e | e <;> subst e
  · refine ⟨by omega, by omega, by omega, by omega, by omega, fun z => Or.inr ⟨1, by omega, by omega, by omega⟩, fun z => Or.inr ⟨1, by omega, by omega, by omega⟩, ⟨by omega, by omega⟩, by omega, by omega⟩
  · refine ⟨by omega, by omega, by omega, by omega, by omega, fun z => Or.inr ⟨2, by omega, by omega, by omega⟩, fun z => Or.inr ⟨2, by omega, by omega, by omega⟩, ⟨by omega, by omega⟩, by omega, by omega⟩
  · refine ⟨by omega, by omega, by omega, by omega, by omega, fun z => Or.inr ⟨3, by omega, by omega, by omega⟩, fun z => Or.inr ⟨3, by omega, by omega, by omega⟩, ⟨by omega, by omega⟩, by omega, by omega⟩
  · refine ⟨by omega, by omega, by omega, by omega, by omega, fun z => Or.inr ⟨4, by omega, by omega, by omega⟩, fun z => Or.inr ⟨4, by omega, by omega, by omega⟩, ⟨by omega, by omega⟩, by omega, by omega⟩
  · refine ⟨by omega, by omega, by omega, by omega, by omega, fun z => Or.inr ⟨5, by omega, by omega, by omega⟩, fun z => Or.inr ⟨5, by omega, by omega, by omega⟩, ⟨by omega, by omega⟩, by omega, by omega⟩
  · refine ⟨by omega, by omega, by omega, by omega, by omega, fun z => Or.inl (by omega), fun z => Or.inl (by omega), ⟨by omega, by omega⟩, by omega, by omega⟩
end
section
noncomputable def tw_i (P : Prop) : Nat := @ite Nat P (Classical.propDecidable P) 1 0
theorem tw_i_t {P : Prop} (h : P) : tw_i P = 1 := by unfold tw_i; rw [if_pos h]
theorem tw_i_f {P : Prop} (h : ¬ P) : tw_i P = 0 := by unfold tw_i; rw [if_neg h]
theorem tw_i_c {P Q : Prop} (h : P ↔ Q) : tw_i P = tw_i Q := by rw [propext h]
/-- how many below m -/
noncomputable def tw_n (P : Nat → Prop) : Nat → Nat
  | 0 => 0
  | m + 1 => tw_n P m + tw_i (P m)
theorem tw_n_c {P Q : Nat → Prop} : ∀ m, (∀ j, j < m → (P j ↔ Q j)) → tw_n P m = tw_n Q m := by
  intro m
  induction m with
  | zero => intro _; rfl
  | succ m ih =>
    intro h
    show tw_n P m + tw_i (P m) = tw_n Q m + tw_i (Q m)
    rw [ih (fun j hj => h j (by omega)), tw_i_c (h m (by omega))]
theorem tw_n_add {P Q : Nat → Prop} {a : Nat} : ∀ m, a < m → ¬ P a → Q a → (∀ j, j < m → j ≠ a → (Q j ↔ P j)) → tw_n Q m = tw_n P m + 1 := by
  intro m
  induction m with
  | zero => intro h; omega
  | succ m ih =>
    intro h h1 h2 h3
    show tw_n Q m + tw_i (Q m) = tw_n P m + tw_i (P m) + 1
    by_cases e : a = m
    · subst e
      rw [tw_i_t h2, tw_i_f h1, tw_n_c (P := Q) (Q := P) a (fun j hj => h3 j (by omega) (by omega))]
    · rw [ih (by omega) h1 h2 (fun j hj hne => h3 j (by omega) hne), tw_i_c (h3 m (by omega) (fun z => e z.symm))]
      omega
theorem tw_n_all {P : Nat → Prop} : ∀ m, (∀ j, j < m → P j) → tw_n P m = m := by
  intro m
  induction m with
  | zero => intro _; rfl
  | succ m ih =>
    intro h
    show tw_n P m + tw_i (P m) = m + 1
    rw [ih (fun j hj => h j (by omega)), tw_i_t (h m (by omega))]
theorem tw_n_no {P : Nat → Prop} : ∀ m, (∀ j, j < m → ¬ P j) → tw_n P m = 0 := by
  intro m
  induction m with
  | zero => intro _; rfl
  | succ m ih =>
    intro h
    show tw_n P m + tw_i (P m) = 0
    rw [ih (fun j hj => h j (by omega)), tw_i_f (h m (by omega))]
theorem tw_n_or {P Q R : Nat → Prop} : ∀ m, (∀ j, j < m → (R j ↔ P j ∨ Q j)) → (∀ j, j < m → ¬ (P j ∧ Q j)) → tw_n R m = tw_n P m + tw_n Q m := by
  intro m
  induction m with
  | zero => intro _ _; rfl
  | succ m ih =>
    intro h h2
    show tw_n R m + tw_i (R m) = tw_n P m + tw_i (P m) + (tw_n Q m + tw_i (Q m))
    rw [ih (fun j hj => h j (by omega)) (fun j hj => h2 j (by omega))]
    have a := h m (by omega)
    have b := h2 m (by omega)
    by_cases e : P m
    · have e2 : ¬ Q m := fun z => b ⟨e, z⟩
      rw [tw_i_t e, tw_i_f e2, tw_i_t (a.mpr (Or.inl e))]
      omega
    · by_cases e2 : Q m
      · rw [tw_i_f e, tw_i_t e2, tw_i_t (a.mpr (Or.inr e2))]
        omega
      · have e3 : ¬ R m := fun z => by
          rcases a.mp z with q | q
          · exact e q
          · exact e2 q
        rw [tw_i_f e, tw_i_f e2, tw_i_f e3]
        omega
theorem tw_n_le {P Q : Nat → Prop} : ∀ m, (∀ j, j < m → P j → Q j) → tw_n P m ≤ tw_n Q m := by
  intro m
  induction m with
  | zero => intro _; exact Nat.le_refl 0
  | succ m ih =>
    intro h
    show tw_n P m + tw_i (P m) ≤ tw_n Q m + tw_i (Q m)
    have a := ih (fun j hj => h j (by omega))
    by_cases e : P m
    · rw [tw_i_t e, tw_i_t (h m (by omega) e)]
      omega
    · rw [tw_i_f e]
      omega
theorem tw_n_m {P : Nat → Prop} (m : Nat) : tw_n P m ≤ m := by
  have a := tw_n_le (P := P) (Q := fun _ => True) m (fun _ _ _ => trivial)
  rw [tw_n_all m (fun _ _ => trivial)] at a
  exact a
/-- counts by distance, put together -/
theorem tw_n_lt {C : Nat → Prop} {f : Nat → Nat} (m k : Nat) : tw_n (fun u => C u ∧ f u < k + 1) m = tw_n (fun u => C u ∧ f u < k) m + tw_n (fun u => C u ∧ f u = k) m :=
  tw_n_or m (fun j _ => ⟨fun z => (Nat.lt_succ_iff_lt_or_eq.mp z.2).elim (fun q => Or.inl ⟨z.1, q⟩) (fun q => Or.inr ⟨z.1, q⟩), fun z => z.elim (fun q => ⟨q.1, by have := q.2; omega⟩) (fun q => ⟨q.1, by have := q.2; omega⟩)⟩) (fun j _ z => by have := z.1.2; have := z.2.2; omega)
/-- sums of naturals -/
def tw_t (f : Nat → Nat) : Nat → Nat
  | 0 => 0
  | m + 1 => tw_t f m + f m
theorem tw_t_c {f g : Nat → Nat} : ∀ m, (∀ j, j < m → f j = g j) → tw_t f m = tw_t g m := by
  intro m
  induction m with
  | zero => intro _; rfl
  | succ m ih =>
    intro h
    show tw_t f m + f m = tw_t g m + g m
    rw [ih (fun j hj => h j (by omega)), h m (by omega)]
theorem tw_t_far (f : Nat → Nat) (D : Nat) : ∀ m, tw_t (fun u => if f u < D + 1 then f u else 0) m = tw_t (fun u => if f u < D then f u else 0) m + D * tw_n (fun u => f u = D) m := by
  intro m
  induction m with
  | zero => rfl
  | succ m ih =>
    show tw_t (fun u => if f u < D + 1 then f u else 0) m + (if f m < D + 1 then f m else 0) = tw_t (fun u => if f u < D then f u else 0) m + (if f m < D then f m else 0) + D * (tw_n (fun u => f u = D) m + tw_i (f m = D))
    rw [ih, Nat.mul_add]
    by_cases e : f m = D
    · rw [tw_i_t e, if_pos (by omega), if_neg (by omega)]
      omega
    · rw [tw_i_f e]
      by_cases e2 : f m < D
      · rw [if_pos e2, if_pos (by omega)]
        omega
      · rw [if_neg e2, if_neg (by omega)]
        omega
/-- a sum of ints, one more of them -/
theorem tw_s_c {f g : Nat → Int32} : ∀ m, (∀ j, j < m → f j = g j) → tw_s f m = tw_s g m := by
  intro m
  induction m with
  | zero => intro _; rfl
  | succ m ih =>
    intro h
    show tw_s f m + f m = tw_s g m + g m
    rw [ih (fun j hj => h j (by omega)), h m (by omega)]
theorem tw_s_add {f g : Nat → Int32} {a : Nat} {x : Int32} : ∀ m, a < m → g a = f a + x → (∀ j, j < m → j ≠ a → g j = f j) → tw_s g m = tw_s f m + x := by
  intro m
  induction m with
  | zero => intro h; omega
  | succ m ih =>
    intro h h2 h3
    show tw_s g m + g m = tw_s f m + f m + x
    by_cases e : a = m
    · subst e
      rw [h2, tw_s_c (f := g) (g := f) a (fun j hj => h3 j (by omega) (by omega))]
      grind
    · rw [ih (by omega) h2 (fun j hj hne => h3 j (by omega) hne), h3 m (by omega) (fun z => e z.symm)]
      grind
theorem tw_s_z : ∀ m, tw_s (fun _ => 0) m = 0 := by
  intro m
  induction m with
  | zero => rfl
  | succ m ih =>
    show tw_s (fun _ => 0) m + 0 = 0
    rw [ih]
    rfl
noncomputable def tw_j (P : Prop) (x : Int32) : Int32 := @ite Int32 P (Classical.propDecidable P) x 0
/-- a sum over places is a sum over nodes -/
theorem tw_s_perm {n : Nat} (pl : Nat → Nat) (g : Nat → Int32) (h1 : ∀ v, v < n → pl v < n) (h2 : ∀ u v, u < n → v < n → pl u = pl v → u = v) (h3 : ∀ i, i < n → ∃ v, v < n ∧ pl v = i) : tw_s (fun v => g (pl v)) n = tw_s g n := by
  have key : ∀ m, m ≤ n → tw_s (fun v => g (pl v)) m = tw_s (fun i => tw_j (∃ v, v < m ∧ pl v = i) (g i)) n := by
    intro m
    induction m with
    | zero =>
      intro _
      rw [tw_s_c (f := fun i => tw_j (∃ v, v < 0 ∧ pl v = i) (g i)) (g := fun _ => 0) n ?_]
      · rw [tw_s_z]; rfl
      · intro j _
        show tw_j _ _ = 0
        unfold tw_j
        rw [if_neg]
        intro ⟨v, hv, _⟩
        omega
    | succ m ih =>
      intro hm
      show tw_s (fun v => g (pl v)) m + g (pl m) = _
      rw [ih (by omega)]
      refine (tw_s_add (a := pl m) n (h1 m (by omega)) ?_ ?_).symm
      · show tw_j _ _ = tw_j _ _ + _
        unfold tw_j
        rw [if_pos ⟨m, by omega, rfl⟩, if_neg]
        · grind
        · intro ⟨v, hv, e⟩
          have := h2 v m (by omega) (by omega) e
          omega
      · intro j hj hne
        show tw_j _ _ = tw_j _ _
        have : (∃ v, v < m + 1 ∧ pl v = j) ↔ (∃ v, v < m ∧ pl v = j) := by
          constructor
          · intro ⟨v, hv, e⟩
            refine ⟨v, ?_, e⟩
            rcases Nat.lt_or_ge v m with z | z
            · exact z
            · have : v = m := by omega
              rw [this] at e
              exact absurd e.symm hne
          · exact fun ⟨v, hv, e⟩ => ⟨v, by omega, e⟩
        rw [propext this]
  rw [key n (Nat.le_refl n)]
  refine tw_s_c n (fun j hj => ?_)
  show tw_j _ _ = _
  unfold tw_j
  rw [if_pos (h3 j hj)]
end
section
/-- the piece of s: the nodes that no cut node parts from s -/
def tw_pc (n : Nat) (p dp : Nat → Nat) (X : Nat → Prop) (s u : Nat) : Prop := u < n ∧ ∀ x, x < n → X x → ¬ tw_b p dp s x u
theorem tw_b_sym {n : Nat} {p dp : Nat → Nat} (T : tw_T n p dp) {s x t : Nat} (hs : s < n) (hx : x < n) (ht : t < n) (h : tw_b p dp s x t) : tw_b p dp t x s := by
  unfold tw_b at *
  rw [tw_d_comm T ht hx, tw_d_comm T hx hs, tw_d_comm T ht hs]
  omega
theorem tw_pc_sym {n : Nat} {p dp : Nat → Nat} (T : tw_T n p dp) {X : Nat → Prop} {s u : Nat} (hs : s < n) (h : tw_pc n p dp X s u) : tw_pc n p dp X u s :=
  ⟨hs, fun x hx hX z => h.2 x hx hX (tw_b_sym T h.1 hx hs z)⟩
theorem tw_pc_tr {n : Nat} {p dp : Nat → Nat} (T : tw_T n p dp) {X : Nat → Prop} {s u v : Nat} (hs : s < n) (h : tw_pc n p dp X s u) (h' : tw_pc n p dp X s v) : tw_pc n p dp X u v :=
  ⟨h'.1, fun x hx hX z => by
    rcases tw_m1 T h.1 hx h'.1 hs z with q | q
    · exact (tw_pc_sym T hs h).2 x hx hX q
    · exact h'.2 x hx hX q⟩
theorem tw_pc_self {n : Nat} {p dp : Nat → Nat} (T : tw_T n p dp) {X : Nat → Prop} {s : Nat} (hs : s < n) (h : ¬ X s) : tw_pc n p dp X s s :=
  ⟨hs, fun x hx hX z => by
    unfold tw_b at z
    rw [tw_d_self T hs] at z
    have := tw_d_0 T hs hx (by omega)
    rw [← this] at hX
    exact h hX⟩
theorem tw_pc_X {n : Nat} {p dp : Nat → Nat} (T : tw_T n p dp) {X : Nat → Prop} {s u : Nat} (h : tw_pc n p dp X s u) : ¬ X u := fun z => h.2 u h.1 z (by
  unfold tw_b
  rw [tw_d_self T h.1]
  omega)
theorem tw_pc_Xs {n : Nat} {p dp : Nat → Nat} (T : tw_T n p dp) {X : Nat → Prop} {s u : Nat} (hs : s < n) (h : tw_pc n p dp X s u) : ¬ X s := fun z => h.2 s hs z (by
  unfold tw_b
  rw [tw_d_self T hs]
  omega)
def tw_u (f : Nat → Nat) (k x : Nat) : Nat → Nat := fun j => if j = k then x else f j
theorem tw_us {f : Nat → Nat} {k x : Nat} : tw_u f k x k = x := if_pos rfl
theorem tw_un {f : Nat → Nat} {k x j : Nat} (h : j ≠ k) : tw_u f k x j = f j := if_neg h
/-- a piece as it is being listed: m nodes are found; those before the i-th are done, and of the i-th the neighbours in D -/
def tw_bf (n : Nat) (p dp : Nat → Nat) (X : Nat → Prop) (s i m : Nat) (D : Nat → Prop) (F Fr : Nat → Nat) : Prop :=
  F 0 = s ∧ 0 < m ∧ (∀ j, j < m → tw_pc n p dp X s (F j)) ∧ (∀ j k, j < m → k < m → F j = F k → j = k) ∧
  (∀ j, 0 < j → j < m → Fr j ≤ i ∧ Fr j < j ∧ tw_nb n p (F (Fr j)) (F j) ∧ tw_d p dp s (F j) = tw_d p dp s (F (Fr j)) + 1) ∧
  (∀ j, j < i → j < m → ∀ w, tw_nb n p (F j) w → tw_d p dp s w = tw_d p dp s (F j) + 1 → ¬ X w → ∃ k, k < m ∧ F k = w) ∧
  (i < m → ∀ w, D w → tw_nb n p (F i) w → tw_d p dp s w = tw_d p dp s (F i) + 1 → ¬ X w → ∃ k, k < m ∧ F k = w) ∧
  (∀ j, 0 < j → j < m → Fr j = i → D (F j))
theorem tw_bf_n {n : Nat} {p dp : Nat → Nat} {X : Nat → Prop} {s i m : Nat} {D : Nat → Prop} {F Fr : Nat → Nat} (h : tw_bf n p dp X s i m D F Fr) : m ≤ n :=
  tw_pig n m F (fun j hj => (h.2.2.1 j hj).1) h.2.2.2.1
theorem tw_bf_0 {n : Nat} {p dp : Nat → Nat} (T : tw_T n p dp) {X : Nat → Prop} {s : Nat} {F Fr : Nat → Nat} (hs : s < n) (hX : ¬ X s) (h0 : F 0 = s) : tw_bf n p dp X s 0 1 (fun _ => False) F Fr := by
  refine ⟨h0, by omega, ?_, by omega, fun j a b => absurd b (by omega), fun j a => absurd a (by omega), fun _ w z => z.elim, fun j a b => absurd b (by omega)⟩
  intro j hj
  rw [show j = 0 by omega, h0]
  exact tw_pc_self T hs hX
/-- a neighbour that is not taken -/
theorem tw_bf_no {n : Nat} {p dp : Nat → Nat} {X : Nat → Prop} {s i m w : Nat} {D D' : Nat → Prop} {F Fr : Nat → Nat} (h : tw_bf n p dp X s i m D F Fr) (hD : ∀ z, D' z ↔ D z ∨ z = w) (hw : X w ∨ tw_d p dp s w ≠ tw_d p dp s (F i) + 1) : tw_bf n p dp X s i m D' F Fr := by
  obtain ⟨a, b, c, d, e, f, g, k⟩ := h
  refine ⟨a, b, c, d, e, f, fun hi z hz h1 h2 h3 => ?_, fun j h1 h2 h3 => (hD _).mpr (Or.inl (k j h1 h2 h3))⟩
  rcases (hD z).mp hz with q | q
  · exact g hi z q h1 h2 h3
  · rw [q] at h2 h3
    rcases hw with q' | q'
    · exact absurd q' h3
    · exact absurd h2 q'
/-- the one that was come from is not taken: it is nearer -/
theorem tw_bf_fr {n : Nat} {p dp : Nat → Nat} {X : Nat → Prop} {s i m w : Nat} {D : Nat → Prop} {F Fr : Nat → Nat} (h : tw_bf n p dp X s i m D F Fr) (h0 : 0 < i) (hi : i < m) (hw : F (Fr i) = w) : tw_d p dp s w ≠ tw_d p dp s (F i) + 1 := by
  have := (h.2.2.2.2.1 i h0 hi).2.2.2
  rw [hw] at this
  omega
/-- a neighbour that is taken -/
theorem tw_bf_add {n : Nat} {p dp : Nat → Nat} (T : tw_T n p dp) {X : Nat → Prop} {s i m w : Nat} {D D' : Nat → Prop} {F Fr : Nat → Nat} (h : tw_bf n p dp X s i m D F Fr) (hi : i < m) (hn : tw_nb n p (F i) w) (hw : ¬ D w) (hD : ∀ z, D' z ↔ D z ∨ z = w) (hX : ¬ X w) (hf : 0 < i → F (Fr i) ≠ w) :
    tw_bf n p dp X s i (m + 1) D' (tw_u F m w) (tw_u Fr m i) ∧ tw_d p dp s w = tw_d p dp s (F i) + 1 := by
  obtain ⟨a, b, c, d, e, f, g, k⟩ := h
  have hs : s < n := by have := (c 0 b).1; rw [a] at this; exact this
  have hFi := (c i hi).1
  have hwn := tw_nb_lt T hFi hn
  have hd : tw_d p dp s w = tw_d p dp s (F i) + 1 := by
    rcases tw_n1 T hs hFi hn with q | q
    · exact q
    · exfalso
      rcases Nat.eq_zero_or_pos i with z | z
      · rw [z, a, tw_d_self T hs] at q
        omega
      · obtain ⟨e1, e2, e3, e4⟩ := e i z hi
        have hFr := (c (Fr i) (by omega)).1
        exact hf z (tw_n2 T hs hFi (tw_nb_sym T hFr e3) hn (by omega) q)
  have hn' := tw_nb_sym T hFi hn
  have hnew : ∀ j, j < m → F j ≠ w := by
    intro j hj z
    rcases Nat.eq_zero_or_pos j with q | q
    · rw [q, a] at z
      rw [← z, tw_d_self T hs] at hd
      omega
    · obtain ⟨e1, e2, e3, e4⟩ := e j q hj
      have hFr := (c (Fr j) (by omega)).1
      have e5 := tw_nb_sym T hFr e3
      rw [z] at e4 e5
      have := tw_n2 T hs hwn e5 hn' (by omega) (by omega)
      have := d _ _ (by omega) hi this
      have := k j q hj this
      rw [z] at this
      exact hw this
  refine ⟨⟨by rw [tw_un (by omega)]; exact a, by omega, ?_, ?_, ?_, ?_, ?_, ?_⟩, hd⟩
  · intro j hj
    by_cases q : j = m
    · rw [q, tw_us]
      refine ⟨hwn, fun x hx hXx z => ?_⟩
      have := tw_n4 T hs hx hwn hn' (by omega) z (fun y => hX (y ▸ hXx))
      exact (c i hi).2 x hx hXx this
    · rw [tw_un q]
      exact c j (by omega)
  · intro j l hj hl z
    by_cases q : j = m
    · by_cases q' : l = m
      · omega
      · rw [q, tw_us, tw_un q'] at z
        exact absurd z.symm (hnew l (by omega))
    · by_cases q' : l = m
      · rw [q', tw_us, tw_un q] at z
        exact absurd z (hnew j (by omega))
      · rw [tw_un q, tw_un q'] at z
        exact d j l (by omega) (by omega) z
  · intro j h0 hj
    by_cases q : j = m
    · rw [q, tw_us, tw_us, tw_un (by omega)]
      exact ⟨Nat.le_refl _, hi, hn, hd⟩
    · obtain ⟨e1, e2, e3, e4⟩ := e j h0 (by omega)
      rw [tw_un q, tw_un q, tw_un (by omega)]
      exact ⟨e1, e2, e3, e4⟩
  · intro j hj hj2 z h1 h2 h3
    rw [tw_un (by omega)] at h1 h2
    obtain ⟨k', hk, ek⟩ := f j hj (by omega) z h1 h2 h3
    exact ⟨k', by omega, by rw [tw_un (by omega)]; exact ek⟩
  · intro _ z hz h1 h2 h3
    rw [tw_un (by omega)] at h1 h2
    rcases (hD z).mp hz with q | q
    · obtain ⟨k', hk, ek⟩ := g hi z q h1 h2 h3
      exact ⟨k', by omega, by rw [tw_un (by omega)]; exact ek⟩
    · exact ⟨m, by omega, by rw [tw_us, q]⟩
  · intro j h0 hj z
    by_cases q : j = m
    · rw [q, tw_us]
      exact (hD w).mpr (Or.inr rfl)
    · rw [tw_un q] at z ⊢
      exact (hD _).mpr (Or.inl (k j h0 (by omega) z))
/-- all neighbours of the i-th are done -/
theorem tw_bf_next {n : Nat} {p dp : Nat → Nat} {X : Nat → Prop} {s i m : Nat} {D : Nat → Prop} {F Fr : Nat → Nat} (h : tw_bf n p dp X s i m D F Fr) (hi : i < m) (hD : ∀ w, tw_nb n p (F i) w → D w) : tw_bf n p dp X s (i + 1) m (fun _ => False) F Fr := by
  obtain ⟨a, b, c, d, e, f, g, k⟩ := h
  refine ⟨a, b, c, d, fun j h0 hj => ?_, fun j hj hjm w h1 h2 h3 => ?_, fun _ w z => z.elim, fun j h0 hj z => ?_⟩
  · have := e j h0 hj
    exact ⟨by omega, this.2⟩
  · by_cases q : j = i
    · rw [q] at h1 h2
      exact g hi w (hD w h1) h1 h2 h3
    · exact f j (by omega) hjm w h1 h2 h3
  · have := (e j h0 hj).1
    omega
theorem tw_bf_end {n : Nat} {p dp : Nat → Nat} (T : tw_T n p dp) {X : Nat → Prop} {s i m : Nat} {D : Nat → Prop} {F Fr : Nat → Nat} (h : tw_bf n p dp X s i m D F Fr) (hm : m ≤ i) : ∀ k u, tw_d p dp s u = k → tw_pc n p dp X s u → ∃ j, j < m ∧ F j = u := by
  obtain ⟨a, b, c, d, e, f, g, q⟩ := h
  have hs : s < n := by have := (c 0 b).1; rw [a] at this; exact this
  intro k
  induction k with
  | zero =>
    intro u hu hp
    exact ⟨0, b, by rw [a]; exact tw_d_0 T hs hp.1 hu⟩
  | succ k ih =>
    intro u hu hp
    have hne : u ≠ s := fun z => by rw [z, tw_d_self T hs] at hu; omega
    obtain ⟨w, h1, h2, h3⟩ := tw_n3 T hs hp.1 hne
    have hpw : tw_pc n p dp X s w := by
      refine ⟨h2, fun x hx hX z => hp.2 x hx hX ?_⟩
      have t := tw_tri T hs hx hp.1
      have := tw_n1 T hx hp.1 h1
      unfold tw_b at *
      omega
    obtain ⟨j, hj, ej⟩ := ih w (by omega) hpw
    have h4 := tw_nb_sym T hp.1 h1
    refine f j (by omega) hj u (by rw [ej]; exact h4) (by rw [ej]; omega) (tw_pc_X T hp)
/-- a listed piece -/
def tw_ls (n : Nat) (p dp : Nat → Nat) (X : Nat → Prop) (s m : Nat) (F : Nat → Nat) : Prop :=
  0 < m ∧ m ≤ n ∧ (∀ j, j < m → tw_pc n p dp X s (F j)) ∧ (∀ j k, j < m → k < m → F j = F k → j = k) ∧ (∀ u, tw_pc n p dp X s u → ∃ j, j < m ∧ F j = u)
theorem tw_bf_ls {n : Nat} {p dp : Nat → Nat} (T : tw_T n p dp) {X : Nat → Prop} {s i m : Nat} {D : Nat → Prop} {F Fr : Nat → Nat} (h : tw_bf n p dp X s i m D F Fr) (hm : m ≤ i) : tw_ls n p dp X s m F :=
  ⟨h.2.1, tw_bf_n h, h.2.2.1, h.2.2.2.1, fun u hu => tw_bf_end T h hm _ u rfl hu⟩
end
section
theorem tw_sm : ∀ i, i < 32 → ((nI i &&& 31).toBitVec.smod 32).toNat = i := by decide +kernel
theorem tw_shr {m i : Nat} (hm : m < 2 ^ 31) (hi : i < 32) : nI m >>> (nI i &&& 31) = nI (m / 2 ^ i) := pk_shrN hm _ i (tw_sm i hi)
theorem tw_32 (a : Nat) : (32 : Int32) + nI a = nI (32 + a) := nI_add 32 a
theorem tw_2m (k : Nat) : (2 : Int32) * nI k = nI (2 * k) := pk_mul 2 k
theorem tw_odd {A B : Prop} {m : Nat} (hm : m < 2 ^ 31) (f : m % 2 = 1 → A) (g : m % 2 = 0 → B) : ((nI m &&& 1) = 1 → A) ∧ (¬ (nI m &&& 1) = 1 → B) := by
  rw [pk_andN (show m < 2 ^ 32 by omega) 1 (by decide)]
  exact pk_eq (m % 2 ^ 1) 1 (fun z => f z) (fun z => g (by omega))
theorem tw_raise {post : St1 → Prop} {c l rs rm : Int32} {a1 a2 a3 a4 a5 a6 a7 a8 a9 a10 a11 a12 a13 a14 a15 a16 a17 a18 a19 a20 a21 a22 a23 a24 a25 : Nat → Int32} {k : Nat} {w x : Int32} (hk : k < 64) (H : ∀ y, post (c, l, rs, rm, a1, a2, a3, a4, a5, a6, a7, a8, a9, a10, a11, a12, upd a13 k (a13 k + w * x), y, upd a15 k (a15 k + x), a16, a17, a18, a19, a20, a21, a22, a23, a24, a25)) : wpX_raise post (c, l, rs, rm, a1, a2, a3, a4, a5, a6, a7, a8, a9, a10, a11, a12, a13, a14, a15, a16, a17, a18, a19, a20, a21, a22, a23, a24, a25) (nI k) w x := by
  have e : (nI k).toNatClampNeg = k := nI_clamp (by omega)
  have i : vp_in (nI k) 64 := vp_in_nI hk (by omega)
  unfold wpX_raise
  dsimp only
  rw [e]
  exact ⟨i, i, nm_e ⟨i, i, nm_e ⟨i, i, nm_e (H _)⟩⟩⟩
theorem tw_join {post : St1 → Prop} {c l rs rm : Int32} {a1 a2 a3 a4 a5 a6 a7 a8 a9 a10 a11 a12 a13 a14 a15 a16 a17 a18 a19 a20 a21 a22 a23 a24 a25 : Nat → Int32} {k : Nat} (hk : k < 32) (H : ∀ y, post (c, l, rs, rm, a1, a2, a3, a4, a5, a6, a7, a8, a9, a10, a11, a12, upd a13 k (a13 (2 * k) + a13 (2 * k + 1)), y, a15, a16, a17, a18, a19, a20, a21, a22, a23, a24, a25)) : wpX_join post (c, l, rs, rm, a1, a2, a3, a4, a5, a6, a7, a8, a9, a10, a11, a12, a13, a14, a15, a16, a17, a18, a19, a20, a21, a22, a23, a24, a25) (nI k) := by
  have e : (nI k).toNatClampNeg = k := nI_clamp (by omega)
  have e2 : (nI (2 * k)).toNatClampNeg = 2 * k := nI_clamp (by omega)
  have e3 : (nI (2 * k + 1)).toNatClampNeg = 2 * k + 1 := nI_clamp (by omega)
  have i : vp_in (nI k) 64 := vp_in_nI (by omega) (by omega)
  have i2 : vp_in (nI (2 * k)) 64 := vp_in_nI (by omega) (by omega)
  have i3 : vp_in (nI (2 * k + 1)) 64 := vp_in_nI (by omega) (by omega)
  unfold wpX_join
  dsimp only
  rw [tw_2m, nI_1, e, e2, e3]
  exact ⟨i2, i3, i, nm_e ⟨i2, i3, br_c (fun _ => ⟨i3, i, nm_e (H _)⟩) (fun _ => ⟨i2, i, nm_e (H _)⟩)⟩⟩
theorem tw_push_S (S : Nat → Int32) (k : Nat) (y : Int32) (j : Nat) : upd (upd S (2 * k) (S (2 * k) + y)) (2 * k + 1) (upd S (2 * k) (S (2 * k) + y) (2 * k + 1) + y) j = if j / 2 = k then S j + y else S j := by
  by_cases e : j = 2 * k + 1
  · rw [e, pk_us, pk_un (by omega), if_pos (by omega)]
  · rw [pk_un e]
    by_cases e2 : j = 2 * k
    · rw [e2, pk_us, if_pos (by omega)]
    · rw [pk_un e2, if_neg (by omega)]
theorem tw_push_P (S : Nat → Int32) (k : Nat) (y : Int32) (j : Nat) : upd (upd (upd S (2 * k) (S (2 * k) + y)) (2 * k + 1) (upd S (2 * k) (S (2 * k) + y) (2 * k + 1) + y)) k 0 j = if j = k then 0 else if j / 2 = k then S j + y else S j := by
  by_cases e : j = k
  · rw [e, pk_us, if_pos rfl]
  · rw [pk_un e, if_neg e, tw_push_S]
theorem tw_passDown {post : St1 → Prop} {c l rs rm : Int32} {a1 a2 a3 a4 a5 a6 a7 a8 a9 a10 a11 a12 a13 a14 a15 a16 a17 a18 a19 a20 a21 a22 a23 a24 a25 : Nat → Int32} {a : Nat} {Y : Nat → Prop} (ha : a < 32) (hY : tw_cl Y) (hz : ∀ j, Y j → a15 j = 0) (hJ : ∀ j, 1 ≤ j → j < 32 → tw_J a13 a15 j)
    (H : ∀ S M P, (∀ j, 1 ≤ j → j < 32 → tw_J S P j) → (∀ j, j < 64 → tw_E S P j = tw_E a13 a15 j) → (∀ j, tw_pa a j → P j = 0) → (∀ j, Y j → P j = 0) → post (c, l, rs, rm, a1, a2, a3, a4, a5, a6, a7, a8, a9, a10, a11, a12, S, M, P, a16, a17, a18, a19, a20, a21, a22, a23, a24, a25)) : wpX_passDown post (c, l, rs, rm, a1, a2, a3, a4, a5, a6, a7, a8, a9, a10, a11, a12, a13, a14, a15, a16, a17, a18, a19, a20, a21, a22, a23, a24, a25) (nI a) := by
  unfold wpX_passDown
  refine ⟨6, ?_⟩
  refine pk_loopD (σ := (Nat → Int32) × (Nat → Int32) × (Nat → Int32)) (fun n i s => wX_passDown_5 post (nI a) n (nI (2 ^ i / 2)) (nI i) c l rs rm a1 a2 a3 a4 a5 a6 a7 a8 a9 a10 a11 a12 s.1 s.2.1 s.2.2 a16 a17 a18 a19 a20 a21 a22 a23 a24 a25) (fun i s => i ≤ 5 ∧ (∀ j, 1 ≤ j → j < 32 → tw_J s.1 s.2.2 j) ∧ (∀ j, j < 64 → tw_E s.1 s.2.2 j = tw_E a13 a15 j) ∧ (∀ t, i < t → t ≤ 5 → s.2.2 ((32 + a) / 2 ^ t) = 0) ∧ (∀ j, Y j → s.2.2 j = 0)) ?_ ?_ 5 (a13, a14, a15) ⟨Nat.le_refl 5, hJ, fun _ _ => rfl, fun t h1 h2 => absurd h1 (by omega), hz⟩
  · intro n ⟨S, M, P⟩ ⟨_, h1, h2, h3, h4⟩
    refine pk_le 0 0 (fun _ => H S M P h1 h2 ?_ h4) (fun z => absurd z (by omega))
    intro j ⟨s, s1, s2, s3⟩
    rw [s3]
    exact h3 s (by omega) s2
  · intro n i ⟨S, M, P⟩ ⟨h0, h1, h2, h3, h4⟩ hw
    dsimp only at h1 h2 h3 h4 hw ⊢
    have hi : i < 5 := by omega
    have hk : 1 ≤ (32 + a) / 2 ^ (i + 1) ∧ (32 + a) / 2 ^ (i + 1) < 32 ∧ 2 ^ (5 - i) ≤ 2 * ((32 + a) / 2 ^ (i + 1)) ∧ 2 * ((32 + a) / 2 ^ (i + 1)) < 2 ^ (6 - i) ∧ 2 ^ (i + 1) / 2 = 2 ^ i ∧ (∀ t, i + 1 < t → t ≤ 5 → (32 + a) / 2 ^ t ≠ (32 + a) / 2 ^ (i + 1) ∧ (32 + a) / 2 ^ t / 2 ≠ (32 + a) / 2 ^ (i + 1)) := by
      have hc : i = 0 ∨ i = 1 ∨ i = 2 ∨ i = 3 ∨ i = 4 := by omega
      have tc : ∀ t, i + 1 < t → t ≤ 5 → t = 2 ∨ t = 3 ∨ t = 4 ∨ t = 5 := by omega
      rcases hc with e | e | e | e | e <;> subst e <;> refine ⟨by omega, by omega, by omega, by omega, by decide, fun t h1 h2 => ?_⟩ <;> rcases tc t h1 h2 with e | e | e | e <;> subst e <;> omega
    have hw2 := tw_w_lv i (by omega) (2 * ((32 + a) / 2 ^ (i + 1))) (by omega) hk.2.2.1 hk.2.2.2.1
    have hsh : (32 + nI a) >>> (nI (i + 1) &&& 31) = nI ((32 + a) / 2 ^ (i + 1)) := by
      rw [tw_32]
      exact tw_shr (by omega) (by omega)
    have h31 : nI (i + 1) + (-1) = nI i := pk_m1 i
    have h21 : nI (2 ^ (i + 1) / 2) / 2 = nI (2 ^ i / 2) := by
      rw [hk.2.2.2.2.1]
      exact pk_div (d := 2) (by have : 2 ^ i ≤ 2 ^ 5 := Nat.pow_le_pow_right (by omega) (by omega)
                                omega) (by omega) (by omega)
    generalize hK : (32 + a) / 2 ^ (i + 1) = k at *
    have ec : (nI k).toNatClampNeg = k := nI_clamp (by omega)
    have iv : vp_in (nI k) 64 := vp_in_nI (by omega) (by omega)
    refine pk_le (i + 1) 0 (fun z => absurd z (by omega)) (fun _ => nm_r hsh ⟨iv, ?_⟩)
    rw [ec]
    refine br_c (fun z => ⟨by decide, nm_r h21 (nm_r h31 (hw (S, M, P) ⟨by omega, h1, h2, fun t t1 t2 => ?_, h4⟩))⟩) (fun z => ⟨iv, ?_⟩)
    · by_cases q : t = i + 1
      · rw [q, hK]
        exact z
      · exact h3 t (by omega) t2
    · rw [tw_2m]
      refine tw_raise (by omega) (fun M1 => ⟨iv, ?_⟩)
      rw [nI_1]
      refine tw_raise (by omega) (fun M2 => ⟨iv, nm_e ⟨by decide, nm_r h21 (nm_r h31 ?_)⟩⟩)
      rw [pk_un (show k ≠ 2 * k by omega), hk.2.2.2.2.1, ← hw2]
      have hS := tw_push_S S k (tw_w (2 * k) * P k)
      have hP := tw_push_P P k (P k)
      have p1 := tw_push hk.1 hk.2.1 hS hP h1
      have p2 := tw_push_z hk.1 hY hP h4
      refine hw (upd (upd S (2 * k) (S (2 * k) + tw_w (2 * k) * P k)) (2 * k + 1) (upd S (2 * k) (S (2 * k) + tw_w (2 * k) * P k) (2 * k + 1) + tw_w (2 * k) * P k), M2, upd (upd (upd P (2 * k) (P (2 * k) + P k)) (2 * k + 1) (upd P (2 * k) (P (2 * k) + P k) (2 * k + 1) + P k)) k 0) ⟨by omega, p1.1, fun j hj => by rw [p1.2 j hj]; exact h2 j hj, fun t t1 t2 => ?_, p2⟩
      by_cases q : t = i + 1
      · dsimp only
        rw [q, hK, pk_us]
      · have h5 := hk.2.2.2.2.2 t (by omega) t2
        dsimp only
        rw [hP, if_neg h5.1, if_neg h5.2]
        exact h3 t (by omega) t2
end
section
theorem tw_jsh : ∀ i, i < 5 → (32 : Int32) >>> ((4 - nI i) &&& 31) = nI (2 ^ (i + 1)) := by decide +kernel
theorem tw_joinUp {post : St1 → Prop} {c l rs rm : Int32} {a1 a2 a3 a4 a5 a6 a7 a8 a9 a10 a11 a12 a13 a14 a15 a16 a17 a18 a19 a20 a21 a22 a23 a24 a25 : Nat → Int32} {a : Nat} {Z : Nat → Prop} (ha : a < 32) (h : ∀ j, 1 ≤ j → j < 32 → ¬ Z j → ¬ tw_pa a j → tw_J a13 a15 j)
    (H : ∀ S M, (∀ j, 1 ≤ j → j < 32 → (¬ Z j ∨ tw_pa a j) → tw_J S a15 j) → post (c, l, rs, rm, a1, a2, a3, a4, a5, a6, a7, a8, a9, a10, a11, a12, S, M, a15, a16, a17, a18, a19, a20, a21, a22, a23, a24, a25)) : wpX_joinUp post (c, l, rs, rm, a1, a2, a3, a4, a5, a6, a7, a8, a9, a10, a11, a12, a13, a14, a15, a16, a17, a18, a19, a20, a21, a22, a23, a24, a25) (nI a) := by
  unfold wpX_joinUp
  refine nm_r (e' := nI ((32 + a) / 2 ^ (0 + 1))) (by rw [tw_32]; exact tw_shr (i := 1) (by omega) (by omega)) ?_
  refine pk_loop (σ := (Nat → Int32) × (Nat → Int32)) (fun n i s => wX_joinUp_9 post n (nI ((32 + a) / 2 ^ (i + 1))) (nI i) c l rs rm a1 a2 a3 a4 a5 a6 a7 a8 a9 a10 a11 a12 s.1 s.2 a15 a16 a17 a18 a19 a20 a21 a22 a23 a24 a25) (fun i s => ∀ j, 1 ≤ j → j < 32 → ¬ ((Z j ∨ tw_pa a j) ∧ ∀ t, 1 ≤ t → t ≤ i → j ≠ (32 + a) / 2 ^ t) → tw_J s.1 a15 j) 5 0 (a13, a14) (by omega) ?_ ?_ ?_
  · intro j j1 j2 j3
    exact h j j1 j2 (fun z => j3 ⟨Or.inl z, fun t t1 t2 => by omega⟩) (fun z => j3 ⟨Or.inr z, fun t t1 t2 => by omega⟩)
  · intro n ⟨S, M⟩ hI
    refine pk_le 5 5 (fun _ => H S M (fun j j1 j2 j3 => hI j j1 j2 (fun z => ?_))) (fun z => absurd z (by omega))
    obtain ⟨z1, z2⟩ := z
    have np : ¬ tw_pa a j := fun ⟨t, t1, t2, t3⟩ => z2 t t1 t2 t3
    rcases j3 with q | q
    · rcases z1 with y | y
      · exact q y
      · exact np y
    · exact np q
  · intro n i ⟨S, M⟩ hi hI hw
    dsimp only at hI hw ⊢
    have hk : 1 ≤ (32 + a) / 2 ^ (i + 1) ∧ (32 + a) / 2 ^ (i + 1) < 32 ∧ 2 ^ (5 - (i + 1)) ≤ (32 + a) / 2 ^ (i + 1) ∧ (32 + a) / 2 ^ (i + 1) < 2 ^ (6 - (i + 1)) ∧ (32 + a) / 2 ^ (i + 1) / 2 = (32 + a) / 2 ^ (i + 1 + 1) ∧ (i = 4 → (32 + a) / 2 ^ (i + 1) / 2 = 0) ∧ ∀ t, 1 ≤ t → t ≤ i + 1 → 1 ≤ (32 + a) / 2 ^ (i + 1) / 2 → (32 + a) / 2 ^ (i + 1) / 2 ≠ (32 + a) / 2 ^ t := by
      have hc : i = 0 ∨ i = 1 ∨ i = 2 ∨ i = 3 ∨ i = 4 := by omega
      have tc : ∀ t, 1 ≤ t → t ≤ i + 1 → t = 1 ∨ t = 2 ∨ t = 3 ∨ t = 4 ∨ t = 5 := by omega
      rcases hc with e | e | e | e | e <;> subst e <;> refine ⟨by omega, by omega, by omega, by omega, by omega, by omega, fun t h1 h2 => ?_⟩ <;> rcases tc t h1 h2 with e | e | e | e | e <;> subst e <;> omega
    have hw2 := tw_w_lv (i + 1) (by omega) ((32 + a) / 2 ^ (i + 1)) (by omega) hk.2.2.1 hk.2.2.2.1
    have hsh : nI ((32 + a) / 2 ^ (i + 1)) >>> ((1 : Int32) &&& 31) = nI ((32 + a) / 2 ^ (i + 1 + 1)) := by
      rw [← hk.2.2.2.2.1]
      exact tw_shr (i := 1) (by omega) (by omega)
    have hpa : i < 4 → tw_pa a ((32 + a) / 2 ^ (i + 1) / 2) := fun z => ⟨i + 1 + 1, by omega, by omega, hk.2.2.2.2.1⟩
    have hpk : tw_pa a ((32 + a) / 2 ^ (i + 1)) := ⟨i + 1, by omega, by omega, rfl⟩
    have hnx := hk.2.2.2.2.2.2
    have hn4 := hk.2.2.2.2.2.1
    have hkt : ∀ j, (∀ t, 1 ≤ t → t ≤ i → j ≠ (32 + a) / 2 ^ t) → j ≠ (32 + a) / 2 ^ (i + 1) → ∀ t, 1 ≤ t → t ≤ i + 1 → j ≠ (32 + a) / 2 ^ t := by
      intro j h1 h2 t t1 t2
      by_cases q : t = i + 1
      · rw [q]; exact h2
      · exact h1 t t1 (by omega)
    generalize hK : (32 + a) / 2 ^ (i + 1) = k at *
    have ec : (nI k).toNatClampNeg = k := nI_clamp (by omega)
    have iv : vp_in (nI k) 64 := vp_in_nI (by omega) (by omega)
    refine pk_le 5 i (fun z => absurd z (by omega)) (fun _ => ⟨iv, nm_e (nm_r (tw_jsh i hi) ?_)⟩)
    refine tw_join (by omega) (fun M1 => ⟨iv, iv, nm_e ⟨iv, iv, nm_e (nm_r hsh (nm_r (nI_1 i) ?_))⟩⟩)
    rw [ec, pk_us, ← hw2]
    refine hw (upd (upd S k (S (2 * k) + S (2 * k + 1))) k (S (2 * k) + S (2 * k + 1) + tw_w k * a15 k), _) ?_
    have hS : ∀ j, upd (upd S k (S (2 * k) + S (2 * k + 1))) k (S (2 * k) + S (2 * k + 1) + tw_w k * a15 k) j = if j = k then S (2 * k) + S (2 * k + 1) + tw_w k * a15 k else S j := by
      intro j
      by_cases q : j = k
      · rw [q, pk_us, if_pos rfl]
      · rw [pk_un q, pk_un q, if_neg q]
    intro j j1 j2 j3
    refine tw_join_J hk.1 hS hI j j1 j2 (fun z => j3 ?_)
    obtain ⟨z1, z2⟩ := z
    rcases z1 with q | q
    · exact ⟨q.1, hkt j q.2 z2⟩
    · by_cases q4 : i = 4
      · have := hn4 q4; omega
      · refine ⟨Or.inr (by rw [q]; exact hpa (by omega)), fun t t1 t2 => ?_⟩
        rw [q]
        exact hnx t t1 t2 (by omega)
theorem tw_addRow_108 {post : St1 → Prop} {c l rs rm : Int32} {a1 a2 a3 a4 a5 a6 a7 a8 a9 a10 a11 a12 a13 a14 a15 a16 a17 a18 a19 a20 a21 a22 a23 a24 a25 : Nat → Int32} {a b : Nat} (ha : a < 32) (hb : b < 32) (h : ∀ j, 1 ≤ j → j < 32 → ¬ (tw_pa a j ∨ tw_pa b j) → tw_J a13 a15 j)
    (H : ∀ S M, (∀ j, 1 ≤ j → j < 32 → tw_J S a15 j) → post (c, l, rs, rm, a1, a2, a3, a4, a5, a6, a7, a8, a9, a10, a11, a12, S, M, a15, a16, a17, a18, a19, a20, a21, a22, a23, a24, a25)) : wX_addRow_108 post (nI a) (nI b) c l rs rm a1 a2 a3 a4 a5 a6 a7 a8 a9 a10 a11 a12 a13 a14 a15 a16 a17 a18 a19 a20 a21 a22 a23 a24 a25 := by
  unfold wX_addRow_108
  refine tw_joinUp (Z := tw_pa b) ha (fun j j1 j2 j3 j4 => h j j1 j2 (fun z => z.elim j4 j3)) (fun S M h1 => ?_)
  refine tw_joinUp (Z := fun _ => False) hb (fun j j1 j2 j3 j4 => h1 j j1 j2 (Or.inl j4)) (fun S M h2 => ?_)
  exact H S M (fun j j1 j2 => h2 j j1 j2 (Or.inl (fun z => z)))
theorem tw_addRow {post : St1 → Prop} {c l rs rm : Int32} {a1 a2 a3 a4 a5 a6 a7 a8 a9 a10 a11 a12 a13 a14 a15 a16 a17 a18 a19 a20 a21 a22 a23 a24 a25 : Nat → Int32} {a b : Nat} {x : Int32} (ha : a < 32) (hb : b < 32) (hJ : ∀ j, 1 ≤ j → j < 32 → tw_J a13 a15 j)
    (H : ∀ S M P, (∀ j, 1 ≤ j → j < 32 → tw_J S P j) → post (c, l, rs, rm, a1, a2, a3, a4, a5, a6, a7, a8, a9, a10, a11, a12, S, M, P, a16, a17, a18, a19, a20, a21, a22, a23, a24, a25)) : wpX_addRow post (c, l, rs, rm, a1, a2, a3, a4, a5, a6, a7, a8, a9, a10, a11, a12, a13, a14, a15, a16, a17, a18, a19, a20, a21, a22, a23, a24, a25) (nI a) (nI b) x := by
  unfold wpX_addRow
  refine tw_passDown (Y := fun _ => False) ha (fun _ _ z => z.elim) (fun _ z => z.elim) hJ (fun S1 M1 P1 h1 _ _ _ => ?_)
  refine tw_passDown (Y := fun _ => False) hb (fun _ _ z => z.elim) (fun _ z => z.elim) h1 (fun S2 M2 P2 h2 _ _ _ => ?_)
  refine nm_r (tw_32 a) (nm_r (e' := nI (32 + b + 1)) (by rw [tw_32, nI_1]) ?_)
  refine Exists.elim (pk_loop (σ := Nat × Nat × (Nat → Int32) × (Nat → Int32) × (Nat → Int32)) (fun n i s => wX_addRow_30 post (nI a) (nI b) x n (nI s.1) (nI s.2.1) (nI (2 ^ i)) (nI i) c l rs rm a1 a2 a3 a4 a5 a6 a7 a8 a9 a10 a11 a12 s.2.2.1 s.2.2.2.1 s.2.2.2.2 a16 a17 a18 a19 a20 a21 a22 a23 a24 a25) (fun i s => tw_lr a b i s.1 s.2.1 ∧ s.1 ≤ 64 ∧ s.2.1 ≤ 64 ∧ ∀ j, 1 ≤ j → j < 32 → ¬ (tw_pa a j ∨ tw_pa b j) → tw_J s.2.2.1 s.2.2.2.2 j) 6 0 (32 + a, 32 + b + 1, S2, M2, P2) (by omega) ?_ ?_ ?_) (fun n hn => ⟨n, hn⟩)
  · refine ⟨⟨Or.inl (by dsimp only; omega), Or.inr (by dsimp only; omega)⟩, by dsimp only; omega, by dsimp only; omega, fun j j1 j2 _ => h2 j j1 j2⟩
  · intro n ⟨lo, hi, S, M, P⟩ ⟨_, _, _, hI⟩
    refine pk_le 6 6 (fun _ => tw_addRow_108 ha hb hI (fun S' M' h' => H S' M' P h')) (fun z => absurd z (by omega))
  · intro n i ⟨lo, hi, S, M, P⟩ hi6 ⟨h1, h64, h65, hI⟩ hw
    dsimp only at h1 h64 h65 hI hw ⊢
    refine pk_le 6 i (fun z => absurd z (by omega)) (fun _ => ?_)
    refine pk_le hi lo (fun z => tw_addRow_108 ha hb hI (fun S' M' h' => H S' M' P h')) (fun hlt => ?_)
    obtain ⟨l1, l2, l3, l4, l5, l6, l7, l8, l9, l10⟩ := tw_lr_s ha hb hi6 h1 hlt
    have w1 := tw_w_lv i hi6 lo l2 l4 (by omega)
    have w2 := tw_w_lv i hi6 (hi - 1) (by omega) (by omega) (by omega)
    have h2i : nI (2 ^ i) * 2 = nI (2 ^ (i + 1)) := pk_mul (2 ^ i) 2
    have next : ∀ (lo2 hi2 : Nat) (S' M' P' : Nat → Int32), lo2 = lo + lo % 2 → hi2 = hi - hi % 2 → (∀ j, 1 ≤ j → j < 32 → ¬ (tw_pa a j ∨ tw_pa b j) → tw_J S' P' j) →
        wX_addRow_84 post (wX_addRow_30 post (nI a) (nI b) x n) (nI a) (nI b) x (nI lo2) (nI hi2) (nI (2 ^ i)) (nI i) c l rs rm a1 a2 a3 a4 a5 a6 a7 a8 a9 a10 a11 a12 S' M' P' a16 a17 a18 a19 a20 a21 a22 a23 a24 a25 := by
      intro lo2 hi2 S' M' P' e1 e2 hI'
      subst e1 e2
      unfold wX_addRow_84
      refine nm_r (tw_shr (i := 1) (by omega) (by omega)) (nm_r (tw_shr (i := 1) (by omega) (by omega)) (nm_r h2i (nm_r (nI_1 i) ?_)))
      exact hw ((lo + lo % 2) / 2, (hi - hi % 2) / 2, S', M', P') ⟨l8, by dsimp only; omega, by dsimp only; omega, hI'⟩
    have mid : ∀ (lo2 : Nat) (S' M' P' : Nat → Int32), lo2 = lo + lo % 2 → (∀ j, 1 ≤ j → j < 32 → ¬ (tw_pa a j ∨ tw_pa b j) → tw_J S' P' j) →
        wX_addRow_64 post (wX_addRow_30 post (nI a) (nI b) x n) (nI a) (nI b) x (nI lo2) (nI hi) (nI (2 ^ i)) (nI i) c l rs rm a1 a2 a3 a4 a5 a6 a7 a8 a9 a10 a11 a12 S' M' P' a16 a17 a18 a19 a20 a21 a22 a23 a24 a25 := by
      intro lo2 S' M' P' e1 hI'
      unfold wX_addRow_64
      refine tw_odd (by omega) (fun o => ?_) (fun o => next lo2 hi S' M' P' e1 (by omega) hI')
      refine nm_r (e' := nI (hi - 1)) (sb_m1 (by omega)) ?_
      refine tw_raise (by omega) (fun M2 => ?_)
      refine next lo2 (hi - 1) _ _ _ e1 (by omega) ?_
      rw [← w2]
      refine tw_raise_J (k := hi - 1) (x := x) (fun j => ?_) (fun j => ?_) ?_ hI'
      · unfold upd
        by_cases q : j = hi - 1
        · rw [if_pos q, if_pos q, q]
        · rw [if_neg q, if_neg q]
      · unfold upd
        by_cases q : j = hi - 1
        · rw [if_pos q, if_pos q, q]
        · rw [if_neg q, if_neg q]
      · rcases l7 o with q | q
        · exact Or.inl q
        · exact Or.inr (Or.inr q)
    refine tw_odd (by omega) (fun o => ?_) (fun o => mid lo S M P (by omega) hI)
    refine tw_raise (by omega) (fun M2 => nm_r (nI_1 lo) ?_)
    refine mid (lo + 1) _ _ _ (by omega) ?_
    rw [← w1]
    refine tw_raise_J (k := lo) (x := x) (fun j => ?_) (fun j => ?_) ?_ hI
    · unfold upd
      by_cases q : j = lo
      · rw [if_pos q, if_pos q, q]
      · rw [if_neg q, if_neg q]
    · unfold upd
      by_cases q : j = lo
      · rw [if_pos q, if_pos q, q]
      · rw [if_neg q, if_neg q]
    · rcases l6 o with q | q
      · exact Or.inl q
      · exact Or.inr (Or.inl q)
theorem tw_askRow {post : St1 → Prop} {c l rs rm : Int32} {a1 a2 a3 a4 a5 a6 a7 a8 a9 a10 a11 a12 a13 a14 a15 a16 a17 a18 a19 a20 a21 a22 a23 a24 a25 : Nat → Int32} {a b : Nat} (ha : a < 32) (hb : b < 32) (hab : a ≤ b + 1) (hJ : ∀ j, 1 ≤ j → j < 32 → tw_J a13 a15 j)
    (H : ∀ S M P rm', (∀ j, 1 ≤ j → j < 32 → tw_J S P j) → (∀ j, j < 64 → tw_E S P j = tw_E a13 a15 j) → post (c, l, rs + (tw_s (tw_E a13 a15) (32 + b + 1) - tw_s (tw_E a13 a15) (32 + a)), rm', a1, a2, a3, a4, a5, a6, a7, a8, a9, a10, a11, a12, S, M, P, a16, a17, a18, a19, a20, a21, a22, a23, a24, a25)) : wpX_askRow post (c, l, rs, rm, a1, a2, a3, a4, a5, a6, a7, a8, a9, a10, a11, a12, a13, a14, a15, a16, a17, a18, a19, a20, a21, a22, a23, a24, a25) (nI a) (nI b) := by
  unfold wpX_askRow
  refine tw_passDown (Y := fun _ => False) ha (fun _ _ z => z.elim) (fun _ z => z.elim) hJ (fun S1 M1 P1 h1 k1 z1 _ => ?_)
  refine tw_passDown (Y := tw_pa a) hb (tw_pa_cl ha) z1 h1 (fun S M P h2 k2 z2 z3 => ?_)
  refine nm_r (tw_32 a) (nm_r (e' := nI (32 + b + 1)) (by rw [tw_32, nI_1]) ?_)
  have kE : ∀ j, j < 64 → tw_E S P j = tw_E a13 a15 j := fun j hj => by rw [k2 j hj, k1 j hj]
  have hE : ∀ q, 1 ≤ q → q < 32 → tw_E a13 a15 q = tw_E a13 a15 (2 * q) + tw_E a13 a15 (2 * q + 1) := by
    intro q q1 q2
    rw [← kE q (by omega), ← kE (2 * q) (by omega), ← kE (2 * q + 1) (by omega)]
    exact tw_E2 q1 q2 (h2 q q1 q2)
  generalize hEE : tw_E a13 a15 = EE at *
  have done : ∀ (lo hi : Nat) (r m : Int32), lo = hi → r + (tw_s EE hi - tw_s EE lo) = rs + (tw_s EE (32 + b + 1) - tw_s EE (32 + a)) → post (c, l, r, m, a1, a2, a3, a4, a5, a6, a7, a8, a9, a10, a11, a12, S, M, P, a16, a17, a18, a19, a20, a21, a22, a23, a24, a25) := by
    intro lo hi r m e1 e2
    have e3 : r = rs + (tw_s EE (32 + b + 1) - tw_s EE (32 + a)) := by
      rw [← e2, e1]
      grind
    rw [e3]
    exact H S M P m h2 kE
  refine Exists.elim (pk_loop (σ := Nat × Nat × Int32 × Int32) (fun n i s => wX_askRow_26 post c l a1 a2 a3 a4 a5 a6 a7 a8 a9 a10 a11 a12 S M P a16 a17 a18 a19 a20 a21 a22 a23 a24 a25 n (nI s.1) (nI s.2.1) (nI i) s.2.2.1 s.2.2.2) (fun i s => tw_lr a b i s.1 s.2.1 ∧ 1 ≤ s.1 ∧ s.1 ≤ s.2.1 ∧ s.2.1 ≤ 64 ∧ (i = 6 → s.2.1 ≤ 1) ∧ s.2.2.1 + (tw_s EE s.2.1 - tw_s EE s.1) = rs + (tw_s EE (32 + b + 1) - tw_s EE (32 + a))) 6 0 (32 + a, 32 + b + 1, rs, rm) (by omega) ?_ ?_ ?_) (fun n hn => ⟨n, hn⟩)
  · exact ⟨⟨Or.inl (by dsimp only; omega), Or.inr (by dsimp only; omega)⟩, by dsimp only; omega, by dsimp only; omega, by dsimp only; omega, fun z => absurd z (by omega), rfl⟩
  · intro n ⟨lo, hi, r, m⟩ ⟨_, i1, i2, _, i4, i5⟩
    dsimp only at i1 i2 i4 i5
    have := i4 rfl
    exact pk_le 6 6 (fun _ => done lo hi r m (by omega) i5) (fun z => absurd z (by omega))
  · intro n i ⟨lo, hi, r, m⟩ hi6 ⟨i0, i1, i2, i3, i4, i5⟩ hw
    dsimp only at i0 i1 i2 i3 i4 i5 hw ⊢
    refine pk_le 6 i (fun z => absurd z (by omega)) (fun _ => ?_)
    refine pk_le hi lo (fun z => done lo hi r m (by omega) i5) (fun hlt => ?_)
    obtain ⟨l1, l2, l3, l4, l5, l6, l7, l8, l9, l10⟩ := tw_lr_s ha hb hi6 i0 hlt
    have next : ∀ (lo2 hi2 : Nat) (r' m' : Int32), lo2 = lo + lo % 2 → hi2 = hi - hi % 2 → r' + (tw_s EE hi2 - tw_s EE lo2) = rs + (tw_s EE (32 + b + 1) - tw_s EE (32 + a)) →
        wX_askRow_153 post (wX_askRow_26 post c l a1 a2 a3 a4 a5 a6 a7 a8 a9 a10 a11 a12 S M P a16 a17 a18 a19 a20 a21 a22 a23 a24 a25 n) (nI lo2) (nI hi2) (nI i) c l r' m' a1 a2 a3 a4 a5 a6 a7 a8 a9 a10 a11 a12 S M P a16 a17 a18 a19 a20 a21 a22 a23 a24 a25 := by
      intro lo2 hi2 r' m' e1 e2 e3
      unfold wX_askRow_153
      refine nm_r (tw_shr (i := 1) (by omega) (by omega)) (nm_r (tw_shr (i := 1) (by omega) (by omega)) (nm_r (nI_1 i) ?_))
      refine hw (lo2 / 2, hi2 / 2, r', m') ⟨by rw [e1, e2]; exact l8, by dsimp only; omega, by dsimp only; omega, by dsimp only; omega, ?_, ?_⟩
      · intro z
        have : i = 5 := by omega
        subst this
        dsimp only
        omega
      · have hh := tw_s_half hE (l := lo2 / 2) (r := hi2 / 2) (by omega) (by omega) (by omega) (by omega)
        rw [show 2 * (lo2 / 2) = lo2 by omega, show 2 * (hi2 / 2) = hi2 by omega] at hh
        dsimp only
        rw [← hh]
        exact e3
    have mid : ∀ (lo2 : Nat) (r' m' : Int32), lo2 = lo + lo % 2 → r' + (tw_s EE hi - tw_s EE lo2) = rs + (tw_s EE (32 + b + 1) - tw_s EE (32 + a)) →
        wX_askRow_94 post (wX_askRow_26 post c l a1 a2 a3 a4 a5 a6 a7 a8 a9 a10 a11 a12 S M P a16 a17 a18 a19 a20 a21 a22 a23 a24 a25 n) (nI lo2) (nI hi) (nI i) c l r' m' a1 a2 a3 a4 a5 a6 a7 a8 a9 a10 a11 a12 S M P a16 a17 a18 a19 a20 a21 a22 a23 a24 a25 := by
      intro lo2 r' m' e1 e3
      unfold wX_askRow_94
      refine tw_odd (by omega) (fun o => ?_) (fun o => next lo2 hi r' m' e1 (by omega) e3)
      have iv : vp_in (nI (hi - 1)) 64 := vp_in_nI (by omega) (by omega)
      refine nm_r (e' := nI (hi - 1)) (sb_m1 (by omega)) ⟨iv, nm_e ⟨iv, ?_⟩⟩
      rw [nI_clamp (show hi - 1 < 2 ^ 31 by omega)]
      have hq : tw_Q P (hi - 1) = 0 := tw_Q_z (tw_pa_cl hb) z2 _ _ (Nat.lt_succ_self _) (by omega) (l7 o)
      have hs : S (hi - 1) = EE (hi - 1) := by
        rw [← kE (hi - 1) (by omega)]
        unfold tw_E
        rw [hq]
        grind
      have e4 : r' + S (hi - 1) + (tw_s EE (hi - 1) - tw_s EE lo2) = rs + (tw_s EE (32 + b + 1) - tw_s EE (32 + a)) := by
        rw [← e3, hs]
        have : tw_s EE hi = tw_s EE (hi - 1) + EE (hi - 1) := by
          rw [show hi = hi - 1 + 1 by omega]
          rfl
        rw [this]
        grind
      refine br_c (fun _ => ?_) (fun _ => ⟨iv, ?_⟩)
      · unfold wX_askRow_150
        exact next lo2 (hi - 1) _ _ e1 (by omega) e4
      · unfold wX_askRow_150
        exact next lo2 (hi - 1) _ _ e1 (by omega) e4
    refine tw_odd (by omega) (fun o => ?_) (fun o => mid lo r m (by omega) i5)
    have iv : vp_in (nI lo) 64 := vp_in_nI (by omega) (by omega)
    refine ⟨iv, nm_e ⟨iv, ?_⟩⟩
    rw [nI_clamp (show lo < 2 ^ 31 by omega)]
    have hq : tw_Q P lo = 0 := tw_Q_z (tw_pa_cl ha) z3 _ _ (Nat.lt_succ_self _) (by omega) (l6 o)
    have hs : S lo = EE lo := by
      rw [← kE lo (by omega)]
      unfold tw_E
      rw [hq]
      grind
    have e4 : r + S lo + (tw_s EE hi - tw_s EE (lo + 1)) = rs + (tw_s EE (32 + b + 1) - tw_s EE (32 + a)) := by
      rw [← i5, hs]
      show r + EE lo + (tw_s EE hi - (tw_s EE lo + EE lo)) = _
      grind
    refine br_c (fun _ => ?_) (fun _ => ⟨iv, ?_⟩)
    · unfold wX_askRow_88
      exact nm_r (nI_1 lo) (mid (lo + 1) _ _ (by omega) e4)
    · unfold wX_askRow_88
      exact nm_r (nI_1 lo) (mid (lo + 1) _ _ (by omega) e4)
end
section
/-- x is the first child of u from b on, or -1 -/
def tw_ch (n : Nat) (p : Nat → Nat) (u b : Nat) (x : Int32) : Prop :=
  (∃ w, b ≤ w ∧ w < n ∧ p w = u ∧ (∀ y, b ≤ y → y < w → p y ≠ u) ∧ x = nI w) ∨ ((∀ y, b ≤ y → y < n → p y ≠ u) ∧ x = -1)
def tw_P (n : Nat) (p : Nat → Nat) (a1 : Nat → Int32) : Prop := ∀ v, 0 < v → v < n → a1 v = nI (p v)
def tw_K (n : Nat) (p : Nat → Nat) (a2 a3 : Nat → Int32) : Prop := (∀ v, v < n → tw_ch n p v 1 (a2 v)) ∧ (∀ w, 0 < w → w < n → tw_ch n p (p w) (w + 1) (a3 w))
theorem tw_ch_hit {n : Nat} {p : Nat → Nat} {v : Nat} (h : v < n) : tw_ch n p (p v) v (nI v) := Or.inl ⟨v, Nat.le_refl v, h, rfl, fun y h1 h2 => absurd h1 (by omega), rfl⟩
theorem tw_ch_miss {n : Nat} {p : Nat → Nat} {u v : Nat} {x : Int32} (h : tw_ch n p u (v + 1) x) (hv : p v ≠ u) : tw_ch n p u v x := by
  have k : ∀ y, v ≤ y → (v + 1 ≤ y → p y ≠ u) → p y ≠ u := by
    intro y h1 h2
    by_cases q : y = v
    · rw [q]; exact hv
    · exact h2 (by omega)
  rcases h with ⟨w, h1, h2, h3, h4, h5⟩ | ⟨h1, h2⟩
  · exact Or.inl ⟨w, by omega, h2, h3, fun y y1 y2 => k y y1 (fun z => h4 y z y2), h5⟩
  · exact Or.inr ⟨fun y y1 y2 => k y y1 (fun z => h1 y z y2), h2⟩
theorem tw_m1neg : ¬ (-1 : Int32) = nI 0 ∧ (-1 : Int32) < 0 := by decide
theorem tw_linkChildren {post : St1 → Prop} {c l rs rm : Int32} {a1 a2 a3 a4 a5 a6 a7 a8 a9 a10 a11 a12 a13 a14 a15 a16 a17 a18 a19 a20 a21 a22 a23 a24 a25 : Nat → Int32} {n : Nat} {p dp : Nat → Nat} (T : tw_T n p dp) (hc : c = nI n) (hP : tw_P n p a1)
    (H : ∀ f g, tw_K n p f g → post (c, l, rs, rm, a1, f, g, a4, a5, a6, a7, a8, a9, a10, a11, a12, a13, a14, a15, a16, a17, a18, a19, a20, a21, a22, a23, a24, a25)) : wpX_linkChildren post (c, l, rs, rm, a1, a2, a3, a4, a5, a6, a7, a8, a9, a10, a11, a12, a13, a14, a15, a16, a17, a18, a19, a20, a21, a22, a23, a24, a25) := by
  subst hc
  have hn := T.2.1
  have h0 := T.1
  unfold wpX_linkChildren
  refine pk_loop (σ := Nat → Int32) (fun m i s => wX_linkChildren_2 post (nI n) l rs rm m (nI i) a1 s a3 a4 a5 a6 a7 a8 a9 a10 a11 a12 a13 a14 a15 a16 a17 a18 a19 a20 a21 a22 a23 a24 a25) (fun i s => ∀ v, v < i → s v = -1) n 0 a2 (by omega) (fun v z => absurd z (by omega)) ?_ ?_
  · intro m s hI
    refine pk_le n n (fun _ => nm_r (e' := nI (n - 1)) (pk_sub (b := 1) (by omega)) ⟨n - 1 + 1, ?_⟩) (fun z => absurd z (by omega))
    refine pk_loopD (σ := (Nat → Int32) × (Nat → Int32)) (fun m i s => wX_linkChildren_30 post (nI n) l rs rm m (nI i) a1 s.1 s.2 a4 a5 a6 a7 a8 a9 a10 a11 a12 a13 a14 a15 a16 a17 a18 a19 a20 a21 a22 a23 a24 a25) (fun i s => i < n ∧ (∀ v, v < n → tw_ch n p v (i + 1) (s.1 v)) ∧ (∀ w, i < w → w < n → tw_ch n p (p w) (w + 1) (s.2 w))) ?_ ?_ (n - 1) (s, a3) ⟨by omega, fun v hv => Or.inr ⟨fun y y1 y2 => absurd y1 (by omega), hI v hv⟩, fun w w1 w2 => absurd w1 (by omega)⟩
    · intro m ⟨f, g⟩ ⟨_, h1, h2⟩
      exact pk_le 0 0 (fun _ => H f g ⟨h1, h2⟩) (fun z => absurd z (by omega))
    · intro m i ⟨f, g⟩ ⟨h1, h2, h3⟩ hw
      dsimp only at h2 h3 hw ⊢
      have hp := T.2.2.2 (i + 1) (by omega) h1
      have e1 := hP (i + 1) (by omega) h1
      have ec : (nI (i + 1)).toNatClampNeg = i + 1 := nI_clamp (by omega)
      have ep : (nI (p (i + 1))).toNatClampNeg = p (i + 1) := nI_clamp (by omega)
      have iv : vp_in (nI (i + 1)) 24 := vp_in_nI (by omega) (by omega)
      have ip : vp_in (nI (p (i + 1))) 24 := vp_in_nI (by omega) (by omega)
      refine pk_le (i + 1) 0 (fun z => absurd z (by omega)) (fun _ => ?_)
      rw [ec, e1, ep]
      refine ⟨iv, ip, iv, nm_e ⟨iv, ip, nm_e (nm_r (pk_m1 i) (hw (upd f (p (i + 1)) (nI (i + 1)), upd g (i + 1) (f (p (i + 1)))) ⟨by omega, fun v hv => ?_, fun w w1 w2 => ?_⟩))⟩⟩
      · dsimp only
        by_cases q : v = p (i + 1)
        · rw [q, pk_us]
          exact tw_ch_hit h1
        · rw [pk_un q]
          exact tw_ch_miss (h2 v hv) (fun z => q z.symm)
      · dsimp only
        by_cases q : w = i + 1
        · rw [q, pk_us]
          exact h2 _ hp.1
        · rw [pk_un q]
          exact h3 w (by omega) w2
  · intro m i s hi hI hw
    have ec : (nI i).toNatClampNeg = i := nI_clamp (by omega)
    refine pk_le n i (fun z => absurd z (by omega)) (fun _ => ⟨pk_in i 24 (by omega), nm_e (nm_r (nI_1 i) ?_)⟩)
    rw [ec]
    refine hw (upd s i (-1)) (fun v hv => ?_)
    by_cases q : v = i
    · rw [q, pk_us]
    · rw [pk_un q]
      exact hI v (by omega)
/-- the neighbours of v that come first: its parent, and its children below b -/
def tw_D (p : Nat → Nat) (v b w : Nat) : Prop := (0 < v ∧ w = p v) ∨ (0 < w ∧ w < b ∧ p w = v)
theorem tw_D_s {n : Nat} {p : Nat → Nat} {v b w : Nat} (hb : 1 ≤ b) (h1 : b ≤ w) (h3 : p w = v) (h4 : ∀ y, b ≤ y → y < w → p y ≠ v) : ∀ z, tw_D p v (w + 1) z ↔ tw_D p v b z ∨ z = w := by
  intro z
  unfold tw_D
  constructor
  · intro h
    rcases h with h | h
    · exact Or.inl (Or.inl h)
    · by_cases q : z = w
      · exact Or.inr q
      · refine Or.inl (Or.inr ⟨h.1, ?_, h.2.2⟩)
        rcases Nat.lt_or_ge z b with y | y
        · exact y
        · exact absurd h.2.2 (h4 z y (by omega))
  · intro h
    rcases h with (h | h) | h
    · exact Or.inl h
    · exact Or.inr ⟨h.1, by omega, h.2.2⟩
    · exact Or.inr ⟨by omega, by omega, by rw [h]; exact h3⟩
theorem tw_D_n {n : Nat} {p dp : Nat → Nat} (T : tw_T n p dp) {v b w : Nat} (hv : v < n) (hb : 1 ≤ b) (h1 : b ≤ w) (h2 : w < n) (h3 : p w = v) : ¬ tw_D p v b w := by
  intro h
  rcases h with h | h
  · have a := (T.2.2.2 v h.1 hv).2
    have b := (T.2.2.2 w (by omega) h2).2
    rw [h3] at b
    rw [← h.2] at a
    omega
  · omega
theorem tw_D_e {n : Nat} {p : Nat → Nat} {v b : Nat} (h : ∀ y, b ≤ y → y < n → p y ≠ v) : ∀ w, tw_nb n p v w → tw_D p v b w := by
  intro w hw
  rcases hw with q | q
  · exact Or.inl q
  · refine Or.inr ⟨q.1, ?_, q.2.2⟩
    rcases Nat.lt_or_ge w b with y | y
    · exact y
    · exact absurd q.2.2 (h w y q.2.1)
theorem tw_D_0 {p : Nat → Nat} : ∀ z, tw_D p 0 1 z ↔ False := by
  intro z
  unfold tw_D
  constructor
  · intro h
    omega
  · exact fun h => h.elim
theorem tw_D_1 {p : Nat → Nat} {v : Nat} (hv : 0 < v) : ∀ z, tw_D p v 1 z ↔ False ∨ z = p v := by
  intro z
  unfold tw_D
  constructor
  · intro h
    rcases h with h | h
    · exact Or.inr h.2
    · omega
  · intro h
    rcases h with h | h
    · exact h.elim
    · exact Or.inl ⟨hv, h⟩
theorem tw_bf_D {n : Nat} {p dp : Nat → Nat} {X : Nat → Prop} {s i m : Nat} {D D' : Nat → Prop} {F Fr : Nat → Nat} (h : tw_bf n p dp X s i m D F Fr) (hD : ∀ z, D' z ↔ D z) : tw_bf n p dp X s i m D' F Fr := by
  have : D' = D := funext (fun z => propext (hD z))
  rw [this]
  exact h
theorem tw_d_top {n : Nat} {p dp : Nat → Nat} (T : tw_T n p dp) {u : Nat} (hu : u < n) : tw_d p dp 0 u = dp u := by
  have h2 := tw_l_le T T.1 hu
  unfold tw_d
  rw [T.2.2.1] at *
  omega
theorem tw_t_add {f g : Nat → Nat} {a x : Nat} : ∀ m, a < m → g a = f a + x → (∀ j, j < m → j ≠ a → g j = f j) → tw_t g m = tw_t f m + x := by
  intro m
  induction m with
  | zero => intro h; omega
  | succ m ih =>
    intro h h2 h3
    show tw_t g m + g m = tw_t f m + f m + x
    by_cases e : a = m
    · subst e
      rw [h2, tw_t_c (f := g) (g := f) a (fun j hj => h3 j (by omega) (by omega))]
      omega
    · rw [ih (by omega) h2 (fun j hj hne => h3 j (by omega) hne), h3 m (by omega) (fun z => e z.symm)]
      omega
theorem tw_t_le {f g : Nat → Nat} : ∀ m, (∀ j, j < m → f j ≤ g j) → tw_t f m ≤ tw_t g m := by
  intro m
  induction m with
  | zero => intro _; exact Nat.le_refl 0
  | succ m ih =>
    intro h
    show tw_t f m + f m ≤ tw_t g m + g m
    have a := ih (fun j hj => h j (by omega))
    have b := h m (by omega)
    omega
theorem tw_t_1 : ∀ m, tw_t (fun _ => 1) m = m := by
  intro m
  induction m with
  | zero => rfl
  | succ m ih =>
    show tw_t (fun _ => 1) m + 1 = m + 1
    rw [ih]
theorem tw_t_0 {f : Nat → Nat} : ∀ m, (∀ j, j < m → f j = 0) → tw_t f m = 0 := by
  intro m
  induction m with
  | zero => intro _; rfl
  | succ m ih =>
    intro h
    show tw_t f m + f m = 0
    rw [ih (fun j hj => h j (by omega)), h m (by omega)]
/-- sizes: a node and its children's parts -/
def tw_Z (n : Nat) (p sz : Nat → Nat) : Prop := sz 0 = n ∧ ∀ v, v < n → sz v = 1 + tw_t (fun w => if 0 < w ∧ p w = v then sz w else 0) n
/-- heavy children -/
def tw_hv (n : Nat) (p : Nat → Nat) (a8 : Nat → Int32) : Prop := ∀ v, v < n → a8 v = -1 ∨ ∃ h, 0 < h ∧ h < n ∧ p h = v ∧ a8 v = nI h
theorem tw_measure_124 {post : St1 → Prop} {c l rs rm : Int32} {a1 a2 a3 a4 a5 a6 a7 a8 a9 a10 a11 a12 a13 a14 a15 a16 a17 a18 a19 a20 a21 a22 a23 a24 a25 : Nat → Int32} {n m : Nat} {p dp : Nat → Nat} {F G Fr : Nat → Nat} (T : tw_T n p dp) (hP : tw_P n p a1) (hm : m = n) (hF : ∀ j, j < m → F j < n ∧ a5 j = nI (F j)) (hG : ∀ u, u < n → G u < m ∧ F (G u) = u) (hG2 : ∀ j, j < m → G (F j) = j) (hF0 : F 0 = 0)
    (hpar : ∀ j, 0 < j → j < m → 0 < F j ∧ Fr j < j ∧ F (Fr j) = p (F j))
    (h6 : ∀ v, v < n → a6 v = 1) (h8 : ∀ v, v < n → a8 v = -1)
    (H : ∀ f g sz, tw_Z n p sz → (∀ v, v < n → f v = nI (sz v)) → tw_hv n p g → post (c, l, rs, rm, a1, a2, a3, a4, a5, f, a7, g, a9, a10, a11, a12, a13, a14, a15, a16, a17, a18, a19, a20, a21, a22, a23, a24, a25)) : ∃ fu, wX_measure_124 post c l rs rm fu (nI (m - 1)) a1 a2 a3 a4 a5 a6 a7 a8 a9 a10 a11 a12 a13 a14 a15 a16 a17 a18 a19 a20 a21 a22 a23 a24 a25 := by
  have hn := T.2.1
  have hn0 := T.1
  refine ⟨m - 1 + 1, ?_⟩
  refine pk_loopD (σ := (Nat → Int32) × (Nat → Int32)) (fun k i s => wX_measure_124 post c l rs rm k (nI i) a1 a2 a3 a4 a5 s.1 a7 s.2 a9 a10 a11 a12 a13 a14 a15 a16 a17 a18 a19 a20 a21 a22 a23 a24 a25) (fun i s => i < m ∧ (∃ S : Nat → Nat, (∀ v, v < n → s.1 v = nI (S v)) ∧ (∀ v, v < n → S v = 1 + tw_t (fun w => if 0 < w ∧ p w = v ∧ i < G w then S w else 0) n) ∧ tw_t (fun j => S (F j)) (i + 1) = n) ∧ tw_hv n p s.2) ?_ ?_ (m - 1) (a6, a8) ⟨by omega, ⟨fun _ => 1, fun v hv => h6 v hv, ?_, ?_⟩, fun v hv => Or.inl (h8 v hv)⟩
  · intro k ⟨f, g⟩ ⟨_, ⟨S, h1, h2, h3⟩, h4⟩
    refine pk_le 0 0 (fun _ => H f g S ⟨?_, fun v hv => ?_⟩ h1 h4) (fun z => absurd z (by omega))
    · have : tw_t (fun j => S (F j)) (0 + 1) = 0 + S (F 0) := rfl
      rw [this, hF0] at h3
      omega
    · rw [h2 v hv]
      refine congrArg (fun x => 1 + x) (tw_t_c n (fun w hw => ?_))
      by_cases q : 0 < w ∧ p w = v
      · have : 0 < G w := by
          rcases Nat.eq_zero_or_pos (G w) with z | z
          · have := (hG w hw).2
            rw [z, hF0] at this
            omega
          · exact z
        rw [if_pos q, if_pos ⟨q.1, q.2, this⟩]
      · rw [if_neg q, if_neg (fun z => q ⟨z.1, z.2.1⟩)]
  · intro k i ⟨f, g⟩ ⟨h0, ⟨S, h1, h2, h3⟩, h4⟩ hw
    dsimp only at h1 h2 h3 h4 hw ⊢
    obtain ⟨f1, f2⟩ := hF (i + 1) h0
    obtain ⟨p1, p2, p3⟩ := hpar (i + 1) (by omega) h0
    have q1 := T.2.2.2 _ p1 f1
    have e1 := hP _ p1 f1
    have hGv := hG2 (i + 1) h0
    generalize hv : F (i + 1) = v at *
    have hGq : G (p v) ≤ i := by
      have := hG2 (Fr (i + 1)) (by omega)
      rw [p3] at this
      omega
    generalize hq : p v = q at *
    have ei : (nI (i + 1)).toNatClampNeg = i + 1 := nI_clamp (by omega)
    have ev : (nI v).toNatClampNeg = v := nI_clamp (by omega)
    have eq : (nI q).toNatClampNeg = q := nI_clamp (by omega)
    have ii : vp_in (nI (i + 1)) 24 := vp_in_nI (by omega) (by omega)
    have iv : vp_in (nI v) 24 := vp_in_nI (by omega) (by omega)
    have iq : vp_in (nI q) 24 := vp_in_nI (by omega) (by omega)
    have key : ∀ g', tw_hv n p g' → wX_measure_124 post c l rs rm k (nI i) a1 a2 a3 a4 a5 (upd f q (f q + f v)) a7 g' a9 a10 a11 a12 a13 a14 a15 a16 a17 a18 a19 a20 a21 a22 a23 a24 a25 := by
      intro g' hg'
      refine hw (upd f q (f q + f v), g') ⟨by omega, ⟨fun x => if x = q then S q + S v else S x, fun x hx => ?_, fun x hx => ?_, ?_⟩, hg'⟩
      · dsimp only
        by_cases e : x = q
        · rw [if_pos e, e, pk_us, h1 q q1.1, h1 v f1, nI_add]
        · rw [if_neg e, pk_un e]
          exact h1 x hx
      · have hs : ∀ w, i < G w → (if w = q then S q + S v else S w) = S w := by
          intro w hw
          rw [if_neg (fun z => by rw [z] at hw; omega)]
        have c1 : tw_t (fun w => if 0 < w ∧ p w = x ∧ i < G w then (if w = q then S q + S v else S w) else 0) n = tw_t (fun w => if 0 < w ∧ p w = x ∧ i < G w then S w else 0) n := by
          refine tw_t_c n (fun w hw => ?_)
          by_cases e : 0 < w ∧ p w = x ∧ i < G w
          · rw [if_pos e, if_pos e, hs w e.2.2]
          · rw [if_neg e, if_neg e]
        show (if x = q then S q + S v else S x) = 1 + tw_t (fun w => if 0 < w ∧ p w = x ∧ i < G w then (if w = q then S q + S v else S w) else 0) n
        rw [c1]
        have oth : ∀ w, w < n → w ≠ v → (i < G w ↔ i + 1 < G w) := by
          intro w hw hne
          constructor
          · intro z
            rcases Nat.lt_or_ge (i + 1) (G w) with y | y
            · exact y
            · have e : G w = i + 1 := by omega
              have := (hG w hw).2
              rw [e, hv] at this
              exact absurd this.symm hne
          · intro z; omega
        by_cases e : x = q
        · rw [if_pos e, e, h2 q q1.1]
          have := tw_t_add (f := fun w => if 0 < w ∧ p w = q ∧ i + 1 < G w then S w else 0) (g := fun w => if 0 < w ∧ p w = q ∧ i < G w then S w else 0) (a := v) (x := S v) n f1 ?_ ?_
          · rw [this]
            omega
          · try dsimp only
            rw [if_pos ⟨p1, hq, by omega⟩, if_neg (fun z => by omega)]
            omega
          · intro w hw hne
            try dsimp only
            by_cases y : 0 < w ∧ p w = q ∧ i < G w
            · rw [if_pos y, if_pos ⟨y.1, y.2.1, (oth w hw hne).mp y.2.2⟩]
            · rw [if_neg y, if_neg (fun z => y ⟨z.1, z.2.1, (oth w hw hne).mpr z.2.2⟩)]
        · rw [if_neg e, h2 x hx]
          refine congrArg (fun y => 1 + y) (tw_t_c n (fun w hw => ?_))
          by_cases ew : w = v
          · rw [if_neg (fun z => e (by rw [← z.2.1, ew, hq])), if_neg (fun z => e (by rw [← z.2.1, ew, hq]))]
          · by_cases y : 0 < w ∧ p w = x ∧ i < G w
            · rw [if_pos y, if_pos ⟨y.1, y.2.1, (oth w hw ew).mp y.2.2⟩]
            · rw [if_neg y, if_neg (fun z => y ⟨z.1, z.2.1, (oth w hw ew).mpr z.2.2⟩)]
      · have := tw_t_add (f := fun j => S (F j)) (g := fun j => if F j = q then S q + S v else S (F j)) (a := Fr (i + 1)) (x := S v) (i + 1) p2 ?_ ?_
        · rw [this]
          have e : tw_t (fun j => S (F j)) (i + 1 + 1) = tw_t (fun j => S (F j)) (i + 1) + S (F (i + 1)) := rfl
          rw [e, hv] at h3
          exact h3
        · try dsimp only
          rw [if_pos p3, p3]
        · intro j hj hne
          try dsimp only
          rw [if_neg]
          intro z
          rw [← p3] at z
          have := hG2 j (by omega)
          rw [z, hG2 _ (by omega)] at this
          exact hne this.symm
    refine pk_le (i + 1) 0 (fun z => absurd z (by omega)) (fun _ => ⟨ii, nm_r (e' := nI v) (by rw [ei]; exact f2) ⟨iv, nm_r (e' := nI q) (by rw [ev]; exact e1) ?_⟩⟩)
    rw [ev, eq]
    have hvv : tw_hv n p (upd g q (nI v)) := by
      intro x hx
      by_cases e : x = q
      · rw [e, pk_us]
        exact Or.inr ⟨v, p1, f1, hq, rfl⟩
      · rw [pk_un e]
        exact h4 x hx
    refine ⟨iq, iv, iq, nm_e ⟨iq, br_c (fun _ => ⟨iq, nm_e (nm_r (pk_m1 i) (key _ hvv))⟩) (fun z => ⟨iv, iq, ?_, br_c (fun _ => nm_r (pk_m1 i) (key _ h4)) (fun _ => ⟨iq, nm_e (nm_r (pk_m1 i) (key _ hvv))⟩)⟩)⟩⟩
    rcases h4 q q1.1 with e | ⟨h, y1, y2, y3, y4⟩
    · rw [e] at z
      exact absurd tw_m1neg.2 z
    · rw [y4]
      exact vp_in_nI (by omega) (by omega)
  · intro v hv
    rw [tw_t_0 n]
    intro w hw
    rw [if_neg]
    intro z
    have := (hG w hw).1
    omega
  · rw [show m - 1 + 1 = n by omega]
    exact tw_t_1 n
end
section
theorem tw_inv {n m : Nat} {F : Nat → Nat} (h : ∀ u, u < n → ∃ j, j < m ∧ F j = u) : ∃ G : Nat → Nat, ∀ u, u < n → G u < m ∧ F (G u) = u := by
  refine ⟨fun u => if hu : u < n then Classical.choose (h u hu) else 0, fun u hu => ?_⟩
  show (if hu : u < n then Classical.choose (h u hu) else 0) < m ∧ F (if hu : u < n then Classical.choose (h u hu) else 0) = u
  rw [dif_pos hu]
  exact Classical.choose_spec (h u hu)
theorem tw_measure_61 {post : St1 → Prop} {J : Int32 → Int32 → (Nat → Int32) → (Nat → Int32) → (Nat → Int32) → (Nat → Int32) → (Nat → Int32) → (Nat → Int32) → (Nat → Int32) → (Nat → Int32) → (Nat → Int32) → (Nat → Int32) → (Nat → Int32) → (Nat → Int32) → (Nat → Int32) → (Nat → Int32) → (Nat → Int32) → (Nat → Int32) → (Nat → Int32) → (Nat → Int32) → (Nat → Int32) → (Nat → Int32) → (Nat → Int32) → (Nat → Int32) → (Nat → Int32) → (Nat → Int32) → (Nat → Int32) →  Prop} {c l rs rm : Int32} {a1 a2 a3 a4 a5 a6 a7 a8 a9 a10 a11 a12 a13 a14 a15 a16 a17 a18 a19 a20 a21 a22 a23 a24 a25 : Nat → Int32} {n i m v : Nat} {p dp F Fr : Nat → Nat} (T : tw_T n p dp) (hK : tw_K n p a2 a3)
    (hb : tw_bf n p dp (fun _ => False) 0 i m (fun _ => False) F Fr) (hi : i < m) (hv : F i = v) (hA : ∀ j, j < m → a5 j = nI (F j) ∧ a7 (F j) = nI (dp (F j)))
    (H : ∀ m' e g F' Fr', tw_bf n p dp (fun _ => False) 0 (i + 1) m' (fun _ => False) F' Fr' → m ≤ m' → (∀ j, j ≤ i → F' j = F j) → (∀ j, j < m' → e j = nI (F' j) ∧ g (F' j) = nI (dp (F' j))) → J (nI m') (nI (i + 1)) a1 a2 a3 a4 e a6 g a8 a9 a10 a11 a12 a13 a14 a15 a16 a17 a18 a19 a20 a21 a22 a23 a24 a25) :
    ∃ fu, wX_measure_61 post J (nI i) (nI v) c l rs rm fu (nI m) (a2 v) 0 a1 a2 a3 a4 a5 a6 a7 a8 a9 a10 a11 a12 a13 a14 a15 a16 a17 a18 a19 a20 a21 a22 a23 a24 a25 := by
  have hn := T.2.1
  have hvn : v < n := by rw [← hv]; exact (hb.2.2.1 i hi).1
  have ev : (nI v).toNatClampNeg = v := nI_clamp (by omega)
  have iv : vp_in (nI v) 24 := vp_in_nI (by omega) (by omega)
  refine pk_loop (σ := Nat × Int32 × (Nat → Int32) × (Nat → Int32)) (fun q k s => wX_measure_61 post J (nI i) (nI v) c l rs rm q (nI s.1) s.2.1 (nI k) a1 a2 a3 a4 s.2.2.1 a6 s.2.2.2 a8 a9 a10 a11 a12 a13 a14 a15 a16 a17 a18 a19 a20 a21 a22 a23 a24 a25) (fun k s => ∃ b F' Fr', k + 1 ≤ b ∧ tw_ch n p v b s.2.1 ∧ tw_bf n p dp (fun _ => False) 0 i s.1 (tw_D p v b) F' Fr' ∧ m ≤ s.1 ∧ (∀ j, j ≤ i → F' j = F j) ∧ (∀ j, j < s.1 → s.2.2.1 j = nI (F' j) ∧ s.2.2.2 (F' j) = nI (dp (F' j)))) 24 0 (m, a2 v, a5, a7) (by omega) ?_ ?_ ?_
  · refine ⟨1, F, Fr, Nat.le_refl 1, hK.1 v hvn, ?_, Nat.le_refl m, fun _ _ => rfl, hA⟩
    rcases Nat.eq_zero_or_pos v with z | z
    · rw [z]
      exact tw_bf_D hb tw_D_0
    · refine tw_bf_no hb (w := p v) (tw_D_1 z) (Or.inr ?_)
      have := T.2.2.2 v z hvn
      rw [hv, tw_d_top T hvn, tw_d_top T this.1]
      omega
  · intro q ⟨m', x, e, g⟩ ⟨b, F', Fr', h1, h2, h3, h4, h5, h6⟩
    dsimp only at h2 h3 h4 h5 h6 ⊢
    refine pk_le 24 24 (fun _ => nm_r (nI_1 i) (H m' e g F' Fr' (tw_bf_next h3 (by omega) ?_) h4 h5 h6)) (fun z => absurd z (by omega))
    rw [h5 i (Nat.le_refl i), hv]
    exact tw_D_e (fun y y1 y2 => absurd y1 (by omega))
  · intro q k ⟨m', x, e, g⟩ hk ⟨b, F', Fr', h1, h2, h3, h4, h5, h6⟩ hw
    dsimp only at h2 h3 h4 h5 h6 hw ⊢
    have hFi : F' i = v := by rw [h5 i (Nat.le_refl i), hv]
    refine pk_le 24 k (fun z => absurd z (by omega)) (fun _ => ?_)
    rcases h2 with ⟨w, w1, w2, w3, w4, w5⟩ | ⟨w1, w2⟩
    · subst w5
      have ew : (nI w).toNatClampNeg = w := nI_clamp (by omega)
      have iw : vp_in (nI w) 24 := vp_in_nI (by omega) (by omega)
      have dw := (T.2.2.2 w (by omega) w2).2
      rw [w3] at dw
      have add := tw_bf_add T (w := w) (D' := tw_D p v (w + 1)) h3 (by omega) (Or.inr ⟨by omega, w2, by rw [hFi]; exact w3⟩) (tw_D_n T hvn (by omega) w1 w2 w3) (tw_D_s (n := n) (by omega) w1 w3 w4) (fun z => z) (fun z y => by
        have := (h3.2.2.2.2.1 i z (by omega)).2.2.2
        rw [y, hFi, tw_d_top T hvn, tw_d_top T w2] at this
        omega)
      have hm' := tw_bf_n add.1
      have em : (nI m').toNatClampNeg = m' := nI_clamp (by omega)
      have im : vp_in (nI m') 24 := vp_in_nI (by omega) (by omega)
      have hgv := (h6 i (by omega)).2
      rw [hFi] at hgv
      have hfresh : ∀ j, j < m' → F' j ≠ w := by
        intro j hj z
        have := add.1.2.2.2.1 j m' (by omega) (by omega) (by rw [tw_us, tw_un (by omega)]; exact z)
        omega
      refine br_f (nI_pos (by omega)) ?_
      rw [ev, ew, em]
      refine ⟨iv, iw, nm_e ⟨im, nm_e (nm_r (nI_1 m') ⟨iw, nm_e (nm_r (nI_1 k) (hw (m' + 1, a3 w, upd e m' (nI w), upd g w (g v + 1)) ⟨w + 1, _, _, by omega, ?_, add.1, by dsimp only; omega, fun j hj => ?_, fun j hj => ?_⟩))⟩)⟩⟩
      · have := hK.2 w (by omega) w2
        rw [w3] at this
        exact this
      · rw [tw_un (by omega)]
        exact h5 j hj
      · dsimp only at hj ⊢
        by_cases y : j = m'
        · rw [y, pk_us, tw_us, pk_us, hgv, nI_1, dw]
          exact ⟨rfl, rfl⟩
        · rw [pk_un y, tw_un y, pk_un (hfresh j (by omega))]
          exact h6 j (by omega)
    · subst w2
      refine br_t tw_m1neg.2 (nm_r (nI_1 i) (H m' e g F' Fr' (tw_bf_next h3 (by omega) ?_) h4 h5 h6))
      rw [hFi]
      exact tw_D_e w1
theorem tw_measure {post : St1 → Prop} {c l rs rm : Int32} {a1 a2 a3 a4 a5 a6 a7 a8 a9 a10 a11 a12 a13 a14 a15 a16 a17 a18 a19 a20 a21 a22 a23 a24 a25 : Nat → Int32} {n : Nat} {p dp : Nat → Nat} (T : tw_T n p dp) (hP : tw_P n p a1) (hK : tw_K n p a2 a3)
    (H : ∀ e f g h sz, tw_Z n p sz → (∀ v, v < n → f v = nI (sz v)) → (∀ v, v < n → g v = nI (dp v)) → tw_hv n p h → post (c, l, rs, rm, a1, a2, a3, a4, e, f, g, h, a9, a10, a11, a12, a13, a14, a15, a16, a17, a18, a19, a20, a21, a22, a23, a24, a25)) : wpX_measure post (c, l, rs, rm, a1, a2, a3, a4, a5, a6, a7, a8, a9, a10, a11, a12, a13, a14, a15, a16, a17, a18, a19, a20, a21, a22, a23, a24, a25) := by
  have hn := T.2.1
  unfold wpX_measure
  refine nm_e (nm_e ?_)
  have fin : ∀ (m i : Nat) (e f g h : Nat → Int32) (F Fr : Nat → Nat), m ≤ i → tw_bf n p dp (fun _ => False) 0 i m (fun _ => False) F Fr → (∀ j, j < m → e j = nI (F j) ∧ g (F j) = nI (dp (F j))) → (∀ j, j < m → f (F j) = 1 ∧ h (F j) = -1) → ∃ fu, wX_measure_124 post c l rs rm fu (nI (m - 1)) a1 a2 a3 a4 e f g h a9 a10 a11 a12 a13 a14 a15 a16 a17 a18 a19 a20 a21 a22 a23 a24 a25 := by
    intro m i e f g h F Fr hmi hb hA hB
    obtain ⟨G, hG⟩ := tw_inv (n := n) (m := m) (F := F) (fun u hu => tw_bf_end T hb hmi _ u rfl ⟨hu, fun _ _ z => z.elim⟩)
    have hm1 := tw_bf_n hb
    have hm2 : n ≤ m := tw_pig m n G (fun u hu => (hG u hu).1) (fun u v hu hv z => by
      have a := (hG u hu).2
      rw [z, (hG v hv).2] at a
      exact a.symm)
    have hFn : ∀ j, j < m → F j < n := fun j hj => (hb.2.2.1 j hj).1
    have hG2 : ∀ j, j < m → G (F j) = j := fun j hj => hb.2.2.2.1 _ _ (hG _ (hFn j hj)).1 hj (hG _ (hFn j hj)).2
    refine tw_measure_124 (Fr := Fr) T hP (by omega) (fun j hj => ⟨hFn j hj, (hA j hj).1⟩) hG hG2 hb.1 (fun j j0 hj => ?_) (fun v hv => ?_) (fun v hv => ?_) (fun f' h' sz s1 s2 s3 => H e f' g h' sz s1 s2 (fun v hv => ?_) s3)
    · obtain ⟨b1, b2, b3, b4⟩ := hb.2.2.2.2.1 j j0 hj
      have hne : F j ≠ 0 := fun z => by
        have := hb.2.2.2.1 j 0 hj (by omega) (by rw [z, hb.1])
        omega
      rw [tw_d_top T (hFn j hj), tw_d_top T (hFn _ (by omega))] at b4
      refine ⟨by omega, b2, ?_⟩
      rcases b3 with q | q
      · have := (T.2.2.2 _ q.1 (hFn _ (by omega))).2
        rw [← q.2] at this
        omega
      · exact q.2.2.symm
    · have := (hB _ (hG v hv).1).1
      rw [(hG v hv).2] at this
      exact this
    · have := (hB _ (hG v hv).1).2
      rw [(hG v hv).2] at this
      exact this
    · have := (hA _ (hG v hv).1).2
      rw [(hG v hv).2] at this
      exact this
  refine pk_loop (σ := Nat × (Nat → Int32) × (Nat → Int32) × (Nat → Int32) × (Nat → Int32)) (fun k i s => wX_measure_18 post c l rs rm k (nI s.1) (nI i) a1 a2 a3 a4 s.2.1 s.2.2.1 s.2.2.2.1 s.2.2.2.2 a9 a10 a11 a12 a13 a14 a15 a16 a17 a18 a19 a20 a21 a22 a23 a24 a25) (fun i s => i ≤ s.1 ∧ ∃ F Fr, tw_bf n p dp (fun _ => False) 0 i s.1 (fun _ => False) F Fr ∧ (∀ j, j < s.1 → s.2.1 j = nI (F j) ∧ s.2.2.2.1 (F j) = nI (dp (F j))) ∧ (∀ j, j < i → s.2.2.1 (F j) = 1 ∧ s.2.2.2.2 (F j) = -1)) 24 0 (1, upd a5 0 0, a6, upd a7 0 0, a8) (by omega) ?_ ?_ ?_
  · refine ⟨by dsimp only; omega, fun _ => 0, fun _ => 0, tw_bf_0 T T.1 (fun z => z) rfl, fun j hj => ?_, fun j hj => absurd hj (by omega)⟩
    dsimp only at hj ⊢
    rw [show j = 0 by omega, pk_us, pk_us, T.2.2.1]
    exact ⟨rfl, rfl⟩
  · intro k ⟨m, e, f, g, h⟩ ⟨h1, F, Fr, h2, h3, h4⟩
    dsimp only at h1 h2 h3 h4 ⊢
    have hm := tw_bf_n h2
    have h0 := h2.2.1
    have hf := fin m 24 e f g h F Fr (by omega) h2 h3 (fun j hj => h4 j (by omega))
    exact pk_le m 24 (fun _ => nm_r (e' := nI (m - 1)) (pk_sub (b := 1) (by omega)) hf) (fun z => absurd z (by omega))
  · intro k i ⟨m, e, f, g, h⟩ hi ⟨h1, F, Fr, h2, h3, h4⟩ hw
    dsimp only at h1 h2 h3 h4 hw ⊢
    have hm := tw_bf_n h2
    have h0 := h2.2.1
    refine pk_le m i (fun z => ?_) (fun him => ?_)
    · exact nm_r (e' := nI (m - 1)) (pk_sub (b := 1) (by omega)) (fin m i e f g h F Fr z h2 h3 (fun j hj => h4 j (by omega)))
    · have hv := (h2.2.2.1 i him).1
      have ei : (nI i).toNatClampNeg = i := nI_clamp (by omega)
      have ev : (nI (F i)).toNatClampNeg = F i := nI_clamp (by omega)
      have ii : vp_in (nI i) 24 := vp_in_nI (by omega) (by omega)
      have iv : vp_in (nI (F i)) 24 := vp_in_nI (by omega) (by omega)
      refine pk_le 24 i (fun z => absurd z (by omega)) (fun _ => ⟨ii, nm_r (e' := nI (F i)) (by rw [ei]; exact (h3 i him).1) ?_⟩)
      rw [ev]
      refine ⟨iv, nm_e ⟨iv, nm_e ⟨iv, nm_e ?_⟩⟩⟩
      refine tw_measure_61 T hK h2 him rfl h3 (fun m' e' g' F' Fr' q1 q2 q3 q4 => ?_)
      refine hw (m', e', upd f (F i) 1, g', upd h (F i) (-1)) ⟨by dsimp only; omega, F', Fr', q1, q4, fun j hj => ?_⟩
      dsimp only
      rw [q3 j (by omega)]
      by_cases y : j = i
      · rw [y, pk_us, pk_us]
        exact ⟨rfl, rfl⟩
      · have : F j ≠ F i := fun z => y (h2.2.2.2.1 j i (by omega) him z)
        rw [pk_un this, pk_un this]
        exact h4 j (by omega)
end
section
/-- nodes that have a place or wait for one -/
def tw_kn (i w : Nat) (N K : Nat → Nat) (x : Nat) : Prop := (∃ j, j < i ∧ N j = x) ∨ (∃ t, t < w ∧ K t = x)
/-- the row as it is being laid: i nodes have their place, w wait; N: the row, K: the pile, po: the places (also those to come), hd: heads, B: the ends of the stretches to come; of the last placed node the children in D are known -/
def tw_ly (n : Nat) (p sz : Nat → Nat) (i w top : Nat) (D : Nat → Prop) (N K po hd B : Nat → Nat) : Prop :=
  (∀ j, j < i → N j < n ∧ po (N j) = j) ∧
  (∀ t, t < w → K t < n ∧ ∀ j, j < i → N j ≠ K t) ∧
  (∀ t t', t < w → t' < w → K t = K t' → t = t') ∧
  (B 0 = n ∧ B w = top ∧ ∀ t, t < w → B (t + 1) = po (K t) ∧ po (K t) + sz (K t) = B t) ∧
  (∀ x, tw_kn i w N K x → x ≠ 0 → (∃ j, j < i ∧ N j = p x) ∧ po (p x) < po x ∧ po x + sz x ≤ po (p x) + sz (p x) ∧ (hd x = x ∨ (hd x = hd (p x) ∧ po x = po (p x) + 1))) ∧
  (tw_kn i w N K 0 ∧ po 0 = 0 ∧ hd 0 = 0) ∧
  (∀ j, j < i → ∀ x, 0 < x → x < n → p x = N j → (j + 1 ≠ i ∨ D x) → tw_kn i w N K x) ∧
  (∀ x, tw_kn i w N K x → x ≠ 0 → 0 < i → p x = N (i - 1) → D x)
theorem tw_ly_0 {n : Nat} {p sz N K po hd B : Nat → Nat} (hn : 0 < n) (hs : sz 0 = n) (h1 : K 0 = 0) (h2 : po 0 = 0) (h3 : hd 0 = 0) (h4 : B 0 = n) (h5 : B 1 = 0) : tw_ly n p sz 0 1 0 (fun _ => True) N K po hd B := by
  refine ⟨fun j z => absurd z (by omega), fun t ht => ?_, fun t t' a b _ => by omega, ⟨h4, h5, fun t ht => ?_⟩, fun x hx hx0 => ?_, ⟨Or.inr ⟨0, by omega, h1⟩, h2, h3⟩, fun j z => absurd z (by omega), fun _ _ _ _ _ => trivial⟩
  · rw [show t = 0 by omega, h1]
    exact ⟨hn, fun j z => absurd z (by omega)⟩
  · rw [show t = 0 by omega, h1, h2, hs, h4, h5]
    omega
  · rcases hx with ⟨j, hj, _⟩ | ⟨t, ht, e⟩
    · omega
    · rw [show t = 0 by omega, h1] at e
      exact absurd e.symm hx0
/-- the top of the pile gets its place -/
theorem tw_ly_pop {n : Nat} {p sz N K po hd B : Nat → Nat} {i w top v : Nat} (h : tw_ly n p sz i (w + 1) top (fun _ => True) N K po hd B) (ht : top = i) (hv : K w = v) : tw_ly n p sz (i + 1) w (i + sz v) (fun _ => False) (tw_u N i v) K po hd B ∧ v < n ∧ po v = i ∧ (∀ j, j < i → N j ≠ v) := by
  obtain ⟨a, b, c, ⟨d0, d1, d2⟩, e, f, g, k⟩ := h
  obtain ⟨b1, b2⟩ := b w (by omega)
  obtain ⟨d3, d4⟩ := d2 w (by omega)
  rw [hv] at b1 b2 d3 d4
  have kn : ∀ x, tw_kn (i + 1) w (tw_u N i v) K x ↔ tw_kn i (w + 1) N K x := by
    intro x
    constructor
    · intro z
      rcases z with ⟨j, hj, ej⟩ | ⟨t, h1, h2⟩
      · by_cases q : j = i
        · rw [q, tw_us] at ej
          exact Or.inr ⟨w, by omega, by rw [hv]; exact ej⟩
        · rw [tw_un q] at ej
          exact Or.inl ⟨j, by omega, ej⟩
      · exact Or.inr ⟨t, by omega, h2⟩
    · intro z
      rcases z with ⟨j, hj, ej⟩ | ⟨t, h1, h2⟩
      · exact Or.inl ⟨j, by omega, by rw [tw_un (by omega)]; exact ej⟩
      · by_cases q : t = w
        · rw [q, hv] at h2
          exact Or.inl ⟨i, by omega, by rw [tw_us]; exact h2⟩
        · exact Or.inr ⟨t, by omega, h2⟩
  refine ⟨⟨fun j hj => ?_, fun t ht => ?_, fun t t' h1 h2 h3 => c t t' (by omega) (by omega) h3, ⟨d0, by omega, fun t ht => d2 t (by omega)⟩, fun x hx hx0 => ?_, ⟨(kn 0).mpr f.1, f.2⟩, fun j hj x x1 x2 x3 x4 => ?_, fun x hx hx0 hi hp => ?_⟩, b1, by omega, b2⟩
  · by_cases q : j = i
    · rw [q, tw_us]
      exact ⟨b1, by omega⟩
    · rw [tw_un q]
      exact a j (by omega)
  · refine ⟨(b t (by omega)).1, fun j hj => ?_⟩
    by_cases q : j = i
    · rw [q, tw_us, ← hv]
      intro z
      have := c w t (by omega) (by omega) z
      omega
    · rw [tw_un q]
      exact (b t (by omega)).2 j (by omega)
  · obtain ⟨⟨j, j1, j2⟩, e2⟩ := e x ((kn x).mp hx) hx0
    exact ⟨⟨j, by omega, by rw [tw_un (by omega)]; exact j2⟩, e2⟩
  · rcases x4 with y | y
    · rw [tw_un (by omega)] at x3
      exact (kn x).mpr (g j (by omega) x x1 x2 x3 (Or.inr trivial))
    · exact y.elim
  · rw [show i + 1 - 1 = i by omega, tw_us] at hp
    obtain ⟨⟨j, j1, j2⟩, e2⟩ := e x ((kn x).mp hx) hx0
    rw [hp] at j2
    exact b2 j j1 j2
/-- a child of the last placed node is put on the pile -/
theorem tw_ly_push {n : Nat} {p sz N K po hd B : Nat → Nat} {i w top top' v ch h : Nat} {D D' : Nat → Prop} (L : tw_ly n p sz (i + 1) w top D N K po hd B) (hv : N i = v) (h0 : 0 < ch) (hc : ch < n) (hp : p ch = v) (hD : ¬ D ch) (hD' : ∀ z, D' z ↔ D z ∨ z = ch) (ht : top' + sz ch = top) (ht1 : i + 1 ≤ top') (ht2 : top ≤ i + sz v) (hh : h = ch ∨ (h = hd v ∧ top' = i + 1)) :
    tw_ly n p sz (i + 1) (w + 1) top' D' N (tw_u K w ch) (tw_u po ch top') (tw_u hd ch h) (tw_u B (w + 1) top') ∧ ¬ tw_kn (i + 1) w N K ch := by
  obtain ⟨a, b, c, ⟨d0, d1, d2⟩, e, f, g, k⟩ := L
  have new : ¬ tw_kn (i + 1) w N K ch := fun z => hD (k ch z (by omega) (by omega) (by rw [show i + 1 - 1 = i by omega, hp, hv]))
  have nN : ∀ j, j < i + 1 → N j ≠ ch := fun j hj z => new (Or.inl ⟨j, hj, z⟩)
  have nK : ∀ t, t < w → K t ≠ ch := fun t ht z => new (Or.inr ⟨t, ht, z⟩)
  have kn : ∀ x, tw_kn (i + 1) (w + 1) N (tw_u K w ch) x ↔ tw_kn (i + 1) w N K x ∨ x = ch := by
    intro x
    constructor
    · intro z
      rcases z with z | ⟨t, h1, h2⟩
      · exact Or.inl (Or.inl z)
      · by_cases q : t = w
        · rw [q, tw_us] at h2
          exact Or.inr h2.symm
        · rw [tw_un q] at h2
          exact Or.inl (Or.inr ⟨t, by omega, h2⟩)
    · intro z
      rcases z with (z | ⟨t, h1, h2⟩) | z
      · exact Or.inl z
      · exact Or.inr ⟨t, by omega, by rw [tw_un (by omega)]; exact h2⟩
      · exact Or.inr ⟨w, by omega, by rw [tw_us]; exact z.symm⟩
  have pv := a i (by omega)
  rw [hv] at pv
  have vch : v ≠ ch := by rw [← hv]; exact nN i (by omega)
  refine ⟨⟨fun j hj => ?_, fun t ht => ?_, fun t t' h1 h2 h3 => ?_, ⟨by rw [tw_un (by omega)]; exact d0, tw_us, fun t ht => ?_⟩, fun x hx hx0 => ?_, ⟨(kn 0).mpr (Or.inl f.1), by rw [tw_un (by omega)]; exact f.2.1, by rw [tw_un (by omega)]; exact f.2.2⟩, fun j hj x x1 x2 x3 x4 => ?_, fun x hx hx0 hi hp' => ?_⟩, new⟩
  · rw [tw_un (nN j hj)]
    exact a j hj
  · by_cases q : t = w
    · rw [q, tw_us]
      exact ⟨hc, nN⟩
    · rw [tw_un q]
      exact b t (by omega)
  · by_cases q : t = w
    · by_cases q' : t' = w
      · omega
      · rw [q, tw_us, tw_un q'] at h3
        exact absurd h3.symm (nK t' (by omega))
    · by_cases q' : t' = w
      · rw [q', tw_us, tw_un q] at h3
        exact absurd h3 (nK t (by omega))
      · rw [tw_un q, tw_un q'] at h3
        exact c t t' (by omega) (by omega) h3
  · by_cases q : t = w
    · rw [q, tw_us, tw_us, tw_us, tw_un (by omega)]
      exact ⟨rfl, by omega⟩
    · rw [tw_un q, tw_un (show t + 1 ≠ w + 1 by omega), tw_un (nK t (by omega)), tw_un (show t ≠ w + 1 by omega)]
      exact d2 t (by omega)
  · by_cases q : x = ch
    · rw [q, tw_us, tw_us, hp, tw_un vch, tw_un vch]
      refine ⟨⟨i, by omega, hv⟩, by omega, by omega, ?_⟩
      rcases hh with y | y
      · exact Or.inl y
      · exact Or.inr ⟨y.1, by omega⟩
    · have hx' : tw_kn (i + 1) w N K x := ((kn x).mp hx).elim id (fun z => absurd z q)
      obtain ⟨⟨j, j1, j2⟩, e2⟩ := e x hx' hx0
      have pch : p x ≠ ch := by rw [← j2]; exact nN j j1
      rw [tw_un q, tw_un q, tw_un pch, tw_un pch]
      exact ⟨⟨j, j1, j2⟩, e2⟩
  · rcases x4 with y | y
    · exact (kn x).mpr (Or.inl (g j hj x x1 x2 x3 (Or.inl y)))
    · rcases (hD' x).mp y with z | z
      · exact (kn x).mpr (Or.inl (g j hj x x1 x2 x3 (Or.inr z)))
      · exact (kn x).mpr (Or.inr z)
  · rcases (kn x).mp hx with z | z
    · exact (hD' x).mpr (Or.inl (k x z hx0 hi hp'))
    · exact (hD' x).mpr (Or.inr z)
/-- all children of the last placed node are known -/
theorem tw_ly_next {n : Nat} {p sz N K po hd B : Nat → Nat} {i w top v : Nat} {D : Nat → Prop} (L : tw_ly n p sz (i + 1) w top D N K po hd B) (hv : N i = v) (hD : ∀ x, 0 < x → x < n → p x = v → D x) : tw_ly n p sz (i + 1) w top (fun _ => True) N K po hd B := by
  obtain ⟨a, b, c, d, e, f, g, k⟩ := L
  refine ⟨a, b, c, d, e, f, fun j hj x x1 x2 x3 _ => ?_, fun _ _ _ _ _ => trivial⟩
  by_cases q : j = i
  · exact g j hj x x1 x2 x3 (Or.inr (hD x x1 x2 (by rw [x3, q, hv])))
  · exact g j hj x x1 x2 x3 (Or.inl (by omega))
/-- chains: heads, places, the row -/
def tw_H (n : Nat) (p sz hd pl : Nat → Nat) (a9 a10 a11 : Nat → Int32) : Prop :=
  (∀ v, v < n → a9 v = nI (hd v) ∧ a10 v = nI (pl v) ∧ pl v < n ∧ a11 (pl v) = nI v) ∧ (∀ i, i < n → ∃ v, v < n ∧ pl v = i) ∧ hd 0 = 0 ∧ pl 0 = 0 ∧
  (∀ v, 0 < v → v < n → pl (p v) < pl v ∧ pl v + sz v ≤ pl (p v) + sz (p v) ∧ (hd v = v ∨ (hd v = hd (p v) ∧ pl v = pl (p v) + 1)))
theorem tw_ly_end {n : Nat} {p dp sz N K po hd B : Nat → Nat} (T : tw_T n p dp) {i w : Nat} {a9 a10 a11 : Nat → Int32} (hs : ∀ v, v < n → 1 ≤ sz v) (L : tw_ly n p sz i w i (fun _ => True) N K po hd B) (hw : w = 0 ∨ n ≤ i) (h9 : ∀ x, tw_kn i w N K x → a9 x = nI (hd x)) (h10 : ∀ j, j < i → a11 j = nI (N j) ∧ a10 (N j) = nI j) : tw_H n p sz hd po a9 a10 a11 := by
  obtain ⟨a, b, c, ⟨d0, d1, d2⟩, e, f, g, k⟩ := L
  have hB : ∀ t, t ≤ w → B t ≤ n := by
    intro t
    induction t with
    | zero => intro _; omega
    | succ t ih =>
      intro ht
      have := d2 t (by omega)
      have := ih (by omega)
      omega
  have w0 : w = 0 := by
    rcases hw with z | z
    · exact z
    · rcases Nat.eq_zero_or_pos w with y | y
      · exact y
      · exfalso
        have h1 := d2 (w - 1) (by omega)
        rw [show w - 1 + 1 = w by omega] at h1
        have h2 := hs _ (b (w - 1) (by omega)).1
        have h3 := hB (w - 1) (by omega)
        omega
  have hi : i = n := by rw [w0] at d1; omega
  subst w0
  have kn : ∀ x, tw_kn i 0 N K x → ∃ j, j < i ∧ N j = x := by
    intro x z
    rcases z with z | ⟨t, h1, _⟩
    · exact z
    · omega
  have all : ∀ m x, dp x = m → x < n → tw_kn i 0 N K x := by
    intro m
    induction m with
    | zero =>
      intro x hx hxn
      rcases Nat.eq_zero_or_pos x with z | z
      · rw [z]; exact f.1
      · have := tw_dp_pos T z hxn; omega
    | succ m ih =>
      intro x hx hxn
      rcases Nat.eq_zero_or_pos x with z | z
      · rw [z]; exact f.1
      · obtain ⟨q1, q2⟩ := T.2.2.2 x z hxn
        obtain ⟨j, j1, j2⟩ := kn _ (ih (p x) (by omega) q1)
        exact g j j1 x z hxn j2.symm (Or.inr trivial)
  refine ⟨fun v hv => ?_, fun j hj => ⟨N j, a j (by omega)⟩, f.2.2, f.2.1, fun v v0 hv => (e v (all _ v rfl hv) (by omega)).2⟩
  obtain ⟨j, j1, j2⟩ := kn v (all _ v rfl hv)
  have h1 := a j j1
  have h2 := h10 j j1
  rw [j2] at h1 h2
  rw [h1.2]
  exact ⟨h9 v (all _ v rfl hv), h2.2, by omega, h2.1⟩
end
section
/-- the sum of sizes of v's children below b, but for h -/
def tw_g1 (p sz : Nat → Nat) (v h b : Nat) (x : Nat) : Nat := if 0 < x ∧ x < b ∧ p x = v ∧ x ≠ h then sz x else 0
def tw_g2 (p sz : Nat → Nat) (v : Nat) (x : Nat) : Nat := if 0 < x ∧ p x = v then sz x else 0
def tw_gD (p : Nat → Nat) (v h b : Nat) (x : Nat) : Prop := 0 < x ∧ x < b ∧ p x = v ∧ x ≠ h
theorem tw_gD_s {p : Nat → Nat} {v h b w : Nat} (hb : 1 ≤ b) (h1 : b ≤ w) (h3 : p w = v) (h4 : ∀ y, b ≤ y → y < w → p y ≠ v) (hne : w ≠ h) : ∀ z, tw_gD p v h (w + 1) z ↔ tw_gD p v h b z ∨ z = w := by
  intro z
  unfold tw_gD
  constructor
  · intro y
    by_cases q : z = w
    · exact Or.inr q
    · refine Or.inl ⟨y.1, ?_, y.2.2⟩
      rcases Nat.lt_or_ge z b with k | k
      · exact k
      · exact absurd y.2.2.1 (h4 z k (by omega))
  · intro y
    rcases y with y | y
    · exact ⟨y.1, by omega, y.2.2⟩
    · rw [y]; exact ⟨by omega, by omega, h3, hne⟩
theorem tw_gD_h {p : Nat → Nat} {v h b w : Nat} (hb : 1 ≤ b) (h1 : b ≤ w) (h4 : ∀ y, b ≤ y → y < w → p y ≠ v) (hne : w = h) : ∀ z, tw_gD p v h (w + 1) z ↔ tw_gD p v h b z := by
  intro z
  unfold tw_gD
  constructor
  · intro y
    refine ⟨y.1, ?_, y.2.2⟩
    rcases Nat.lt_or_ge z b with k | k
    · exact k
    · exact absurd y.2.2.1 (h4 z k (by omega))
  · intro y
    exact ⟨y.1, by omega, y.2.2⟩
theorem tw_g1_s {n : Nat} {p sz : Nat → Nat} {v h b w : Nat} (hb : 1 ≤ b) (h1 : b ≤ w) (h2 : w < n) (h3 : p w = v) (h4 : ∀ y, b ≤ y → y < w → p y ≠ v) (hne : w ≠ h) : tw_t (tw_g1 p sz v h (w + 1)) n = tw_t (tw_g1 p sz v h b) n + sz w := by
  refine tw_t_add (a := w) n h2 ?_ (fun z hz hzw => ?_)
  · unfold tw_g1
    rw [if_pos ⟨by omega, by omega, h3, hne⟩, if_neg (fun z => by omega)]
    omega
  · have := tw_gD_s hb h1 h3 h4 hne z
    unfold tw_gD at this
    unfold tw_g1
    by_cases q : 0 < z ∧ z < b ∧ p z = v ∧ z ≠ h
    · rw [if_pos q, if_pos (this.mpr (Or.inl q))]
    · rw [if_neg q, if_neg (fun y => (this.mp y).elim q hzw)]
theorem tw_g1_h {n : Nat} {p sz : Nat → Nat} {v h b w : Nat} (hb : 1 ≤ b) (h1 : b ≤ w) (h4 : ∀ y, b ≤ y → y < w → p y ≠ v) (hne : w = h) : tw_t (tw_g1 p sz v h (w + 1)) n = tw_t (tw_g1 p sz v h b) n := by
  refine tw_t_c n (fun z hz => ?_)
  have := tw_gD_h (v := v) hb h1 h4 hne z
  unfold tw_gD at this
  unfold tw_g1
  by_cases q : 0 < z ∧ z < b ∧ p z = v ∧ z ≠ h
  · rw [if_pos q, if_pos (this.mpr q)]
  · rw [if_neg q, if_neg (fun y => q (this.mp y))]
theorem tw_g1_le {n : Nat} {p sz : Nat → Nat} {v h b : Nat} : tw_t (tw_g1 p sz v h b) n ≤ tw_t (tw_g2 p sz v) n := by
  refine tw_t_le n (fun z hz => ?_)
  unfold tw_g1 tw_g2
  by_cases q : 0 < z ∧ z < b ∧ p z = v ∧ z ≠ h
  · rw [if_pos q, if_pos ⟨q.1, q.2.2.1⟩]
    exact Nat.le_refl _
  · rw [if_neg q]
    exact Nat.zero_le _
theorem tw_g1_all {n : Nat} {p sz : Nat → Nat} {v h b : Nat} (hh : n ≤ h) (hb : ∀ y, b ≤ y → y < n → p y ≠ v) : tw_t (tw_g2 p sz v) n = tw_t (tw_g1 p sz v h b) n := by
  refine tw_t_c n (fun z hz => ?_)
  unfold tw_g1 tw_g2
  by_cases q : 0 < z ∧ p z = v
  · have hzb : z < b := by
      rcases Nat.lt_or_ge z b with k | k
      · exact k
      · exact absurd q.2 (hb z k hz)
    rw [if_pos q, if_pos ⟨q.1, hzb, q.2, by omega⟩]
  · rw [if_neg q, if_neg (fun y => q ⟨y.1, y.2.2.1⟩)]
theorem tw_g1_hv {n : Nat} {p sz : Nat → Nat} {v h b : Nat} (h0 : 0 < h) (hh : h < n) (hp : p h = v) (hb : ∀ y, b ≤ y → y < n → p y ≠ v) : tw_t (tw_g2 p sz v) n = tw_t (tw_g1 p sz v h b) n + sz h := by
  refine tw_t_add (a := h) n hh ?_ (fun z hz hzh => ?_)
  · unfold tw_g1 tw_g2
    rw [if_pos ⟨h0, hp⟩, if_neg (fun y => y.2.2.2 rfl)]
    omega
  · unfold tw_g1 tw_g2
    by_cases q : 0 < z ∧ p z = v
    · have hzb : z < b := by
        rcases Nat.lt_or_ge z b with k | k
        · exact k
        · exact absurd q.2 (hb z k hz)
      rw [if_pos q, if_pos ⟨q.1, hzb, q.2, hzh⟩]
    · rw [if_neg q, if_neg (fun y => q ⟨y.1, y.2.2.1⟩)]
theorem tw_ly_w {n : Nat} {p sz N K po hd B : Nat → Nat} {i w top : Nat} {D : Nat → Prop} (L : tw_ly n p sz i w top D N K po hd B) : w ≤ n :=
  tw_pig n w K (fun t ht => (L.2.1 t ht).1) L.2.2.1
theorem tw_ly_D {n : Nat} {p sz N K po hd B : Nat → Nat} {i w top : Nat} {D D' : Nat → Prop} (L : tw_ly n p sz i w top D N K po hd B) (h : ∀ z, D' z ↔ D z) : tw_ly n p sz i w top D' N K po hd B := by
  have : D' = D := funext (fun z => propext (h z))
  rw [this]
  exact L
/-- arrays that match heads and pile -/
def tw_lm (i w : Nat) (N K hd : Nat → Nat) (e h : Nat → Int32) : Prop := (∀ x, tw_kn i w N K x → e x = nI (hd x)) ∧ (∀ t, t < w → h t = nI (K t))
theorem tw_lm_push {i w ch hh : Nat} {N K hd : Nat → Nat} {e h : Nat → Int32} {x : Int32} (L : tw_lm i w N K hd e h) (hx : x = nI hh) (hn : ¬ tw_kn i w N K ch) : tw_lm i (w + 1) N (tw_u K w ch) (tw_u hd ch hh) (upd e ch x) (upd h w (nI ch)) := by
  refine ⟨fun y hy => ?_, fun t ht => ?_⟩
  · by_cases q : y = ch
    · rw [q, pk_us, tw_us, hx]
    · rw [pk_un q, tw_un q]
      refine L.1 y ?_
      rcases hy with z | ⟨t, h1, h2⟩
      · exact Or.inl z
      · by_cases q' : t = w
        · rw [q', tw_us] at h2
          exact absurd h2.symm q
        · rw [tw_un q'] at h2
          exact Or.inr ⟨t, by omega, h2⟩
  · by_cases q : t = w
    · rw [q, pk_us, tw_us]
    · rw [pk_un q, tw_un q]
      exact L.2 t (by omega)
theorem tw_layRow_63 {post : St1 → Prop} {J : Int32 → Int32 → (Nat → Int32) → (Nat → Int32) → (Nat → Int32) → (Nat → Int32) → (Nat → Int32) → (Nat → Int32) → (Nat → Int32) → (Nat → Int32) → (Nat → Int32) → (Nat → Int32) → (Nat → Int32) → (Nat → Int32) → (Nat → Int32) → (Nat → Int32) → (Nat → Int32) → (Nat → Int32) → (Nat → Int32) → (Nat → Int32) → (Nat → Int32) → (Nat → Int32) → (Nat → Int32) → (Nat → Int32) → (Nat → Int32) → (Nat → Int32) → (Nat → Int32) →  Prop} {c l rs rm : Int32} {a1 a2 a3 a4 a5 a6 a7 a8 a9 a10 a11 a12 a13 a14 a15 a16 a17 a18 a19 a20 a21 a22 a23 a24 a25 : Nat → Int32} {n i w v : Nat} {p dp sz N K po hd B : Nat → Nat} (T : tw_T n p dp) (hK : tw_K n p a2 a3) (hZ : tw_Z n p sz) (hh : tw_hv n p a8)
    (hv : v < n) (hN : N i = v) (L : tw_ly n p sz (i + 1) w (i + sz v) (fun _ => False) N K po hd B) (hm : tw_lm (i + 1) w N K hd a9 a12)
    (H : ∀ w' e h K' po' hd' B', tw_ly n p sz (i + 1) w' (i + 1) (fun _ => True) N K' po' hd' B' → tw_lm (i + 1) w' N K' hd' e h → J (nI w') (nI (i + 1)) a1 a2 a3 a4 a5 a6 a7 a8 e a10 a11 h a13 a14 a15 a16 a17 a18 a19 a20 a21 a22 a23 a24 a25) :
    ∃ fu, wX_layRow_63 post J (nI i) (nI v) c l rs rm fu (nI w) (a2 v) 0 a1 a2 a3 a4 a5 a6 a7 a8 a9 a10 a11 a12 a13 a14 a15 a16 a17 a18 a19 a20 a21 a22 a23 a24 a25 := by
  have hn := T.2.1
  have ev : (nI v).toNatClampNeg = v := nI_clamp (by omega)
  have iv : vp_in (nI v) 24 := vp_in_nI (by omega) (by omega)
  have hz := hZ.2 v hv
  have hz : sz v = 1 + tw_t (tw_g2 p sz v) n := hz
  obtain ⟨h, hcase⟩ : ∃ h : Nat, (a8 v = -1 ∧ h = n) ∨ (0 < h ∧ h < n ∧ p h = v ∧ a8 v = nI h) := by
    rcases hh v hv with z | ⟨h, z⟩
    · exact ⟨n, Or.inl ⟨z, rfl⟩⟩
    · exact ⟨h, Or.inr z⟩
  have fin : ∀ (b w' top : Nat) (e k : Nat → Int32) (K' po' hd' B' : Nat → Nat), (∀ y, b ≤ y → y < n → p y ≠ v) → tw_ly n p sz (i + 1) w' top (tw_gD p v h b) N K' po' hd' B' → top + tw_t (tw_g1 p sz v h b) n = i + sz v → tw_lm (i + 1) w' N K' hd' e k →
      wX_layRow_121 post J (nI w') (nI i) (nI v) c l rs rm a1 a2 a3 a4 a5 a6 a7 a8 e a10 a11 k a13 a14 a15 a16 a17 a18 a19 a20 a21 a22 a23 a24 a25 := by
    intro b w' top e k K' po' hd' B' hb L' ht hm'
    unfold wX_layRow_121
    rw [ev]
    refine ⟨iv, ?_⟩
    have hchild : ∀ x, 0 < x → x < n → p x = v → x ≠ h → tw_gD p v h b x := by
      intro x x0 xn xp xh
      refine ⟨x0, ?_, xp, xh⟩
      rcases Nat.lt_or_ge x b with y | y
      · exact y
      · exact absurd xp (hb x y xn)
    rcases hcase with ⟨q1, q2⟩ | ⟨q1, q2, q3, q4⟩
    · rw [q1]
      refine br_t tw_m1neg.2 (nm_r (nI_1 i) (H w' e k K' po' hd' B' ?_ hm'))
      have := tw_g1_all (sz := sz) (h := h) (by omega) hb
      rw [show i + 1 = top by omega]
      rw [show i + 1 = top by omega] at L'
      have L2 := tw_ly_next (i := i) (by rw [show i + 1 = top by omega]; exact L') hN (fun x x0 xn xp => hchild x x0 xn xp (by omega))
      rw [show i + 1 = top by omega] at L2
      exact L2
    · rw [q4]
      have eh : (nI h).toNatClampNeg = h := nI_clamp (by omega)
      have ih : vp_in (nI h) 24 := vp_in_nI (by omega) (by omega)
      have := tw_g1_hv (sz := sz) q1 q2 q3 hb
      have push := tw_ly_push (D' := fun x => tw_gD p v h b x ∨ x = h) (top' := i + 1) (h := hd' v) L' hN q1 q2 q3 (fun z => z.2.2.2 rfl) (fun z => Iff.rfl) (by omega) (by omega) (by omega) (Or.inr ⟨rfl, rfl⟩)
      have hw' := tw_ly_w push.1
      have ew : (nI w').toNatClampNeg = w' := nI_clamp (by omega)
      have iw : vp_in (nI w') 25 := vp_in_nI (by omega) (by omega)
      refine br_f (nI_pos (by omega)) ?_
      rw [eh, ew]
      refine ⟨iv, iv, ih, nm_e ⟨iv, iw, nm_e (nm_r (nI_1 w') (nm_r (nI_1 i) ?_))⟩⟩
      refine H (w' + 1) (upd e h (e v)) (upd k w' (nI h)) _ _ _ _ (tw_ly_next push.1 hN (fun x x0 xn xp => ?_)) (tw_lm_push hm' (hm'.1 v (Or.inl ⟨i, by omega, hN⟩)) push.2)
      by_cases y : x = h
      · exact Or.inr y
      · exact Or.inl (hchild x x0 xn xp y)
  refine pk_loop (σ := Nat × Int32 × (Nat → Int32) × (Nat → Int32)) (fun q k s => wX_layRow_63 post J (nI i) (nI v) c l rs rm q (nI s.1) s.2.1 (nI k) a1 a2 a3 a4 a5 a6 a7 a8 s.2.2.1 a10 a11 s.2.2.2 a13 a14 a15 a16 a17 a18 a19 a20 a21 a22 a23 a24 a25) (fun k s => ∃ b top K' po' hd' B', k + 1 ≤ b ∧ tw_ch n p v b s.2.1 ∧ tw_ly n p sz (i + 1) s.1 top (tw_gD p v h b) N K' po' hd' B' ∧ top + tw_t (tw_g1 p sz v h b) n = i + sz v ∧ tw_lm (i + 1) s.1 N K' hd' s.2.2.1 s.2.2.2) 24 0 (w, a2 v, a9, a12) (by omega) ?_ ?_ ?_
  · refine ⟨1, i + sz v, K, po, hd, B, Nat.le_refl 1, hK.1 v hv, tw_ly_D L (fun z => ⟨fun y => ?_, fun y => y.elim⟩), ?_, hm⟩
    · unfold tw_gD at y
      omega
    · rw [tw_t_0 n]
      · rfl
      · intro x _
        unfold tw_g1
        rw [if_neg (fun z => by omega)]
  · intro q ⟨w', x, e, k⟩ ⟨b, top, K', po', hd', B', h1, h2, h3, h4, h5⟩
    dsimp only at h2 h3 h4 h5 ⊢
    exact pk_le 24 24 (fun _ => fin b w' top e k K' po' hd' B' (fun y y1 y2 => absurd y1 (by omega)) h3 h4 h5) (fun z => absurd z (by omega))
  · intro q k ⟨w', x, e, g⟩ hk ⟨b, top, K', po', hd', B', h1, h2, h3, h4, h5⟩ hw
    dsimp only at h2 h3 h4 h5 hw ⊢
    refine pk_le 24 k (fun z => absurd z (by omega)) (fun _ => ?_)
    rcases h2 with ⟨ch, w1, w2, w3, w4, w5⟩ | ⟨w1, w2⟩
    · subst w5
      have ew : (nI ch).toNatClampNeg = ch := nI_clamp (by omega)
      have iw : vp_in (nI ch) 24 := vp_in_nI (by omega) (by omega)
      have hnx := hK.2 ch (by omega) w2
      rw [w3] at hnx
      refine br_f (nI_pos (by omega)) ?_
      rw [ev, ew]
      refine ⟨iv, ?_⟩
      have skip : ch = h → wX_layRow_63 post J (nI i) (nI v) c l rs rm q (nI w') (a3 ch) (nI (k + 1)) a1 a2 a3 a4 a5 a6 a7 a8 e a10 a11 g a13 a14 a15 a16 a17 a18 a19 a20 a21 a22 a23 a24 a25 := by
        intro e1
        refine hw (w', a3 ch, e, g) ⟨ch + 1, top, K', po', hd', B', by omega, hnx, tw_ly_D h3 (tw_gD_h (by omega) w1 w4 e1), ?_, h5⟩
        rw [tw_g1_h (by omega) w1 w4 e1]
        exact h4
      have take : ch ≠ h → vp_in (nI ch) 24 ∧ ∀ a9_36, a9_36 = upd e ch (nI ch) → vp_in (nI w') 25 ∧ ∀ a12_38, a12_38 = upd g (nI w').toNatClampNeg (nI ch) → ∀ x1_39, x1_39 = nI w' + 1 → vp_in (nI ch) 24 ∧ ∀ x4_41, x4_41 = a3 ch → ∀ x5_42, x5_42 = nI k + 1 → wX_layRow_63 post J (nI i) (nI v) c l rs rm q x1_39 x4_41 x5_42 a1 a2 a3 a4 a5 a6 a7 a8 a9_36 a10 a11 a12_38 a13 a14 a15 a16 a17 a18 a19 a20 a21 a22 a23 a24 a25 := by
        intro e1
        have s1 := tw_g1_s (sz := sz) (n := n) (h := h) (by omega) w1 w2 w3 w4 e1
        have s2 := tw_g1_le (sz := sz) (n := n) (p := p) (v := v) (h := h) (b := ch + 1)
        have push := tw_ly_push (D' := tw_gD p v h (ch + 1)) (top' := top - sz ch) (h := ch) h3 hN (by omega) w2 w3 (fun z => absurd z.2.1 (by omega)) (tw_gD_s (by omega) w1 w3 w4 e1) (by omega) (by omega) (by omega) (Or.inl rfl)
        have hw' := tw_ly_w push.1
        have ew' : (nI w').toNatClampNeg = w' := nI_clamp (by omega)
        have iw' : vp_in (nI w') 25 := vp_in_nI (by omega) (by omega)
        rw [ew']
        refine ⟨iw, nm_e ⟨iw', nm_e (nm_r (nI_1 w') ⟨iw, nm_e (nm_r (nI_1 k) ?_)⟩)⟩⟩
        exact hw (w' + 1, a3 ch, upd e ch (nI ch), upd g w' (nI ch)) ⟨ch + 1, top - sz ch, _, _, _, _, by omega, hnx, push.1, by omega, tw_lm_push h5 rfl push.2⟩
      rcases hcase with ⟨q1, q2⟩ | ⟨q1, q2, q3, q4⟩
      · rw [q1]
        refine br_f (fun z => ?_) (take (by omega))
        have := nI_pos (n := ch) (by omega)
        rw [z] at this
        exact this tw_m1neg.2
      · rw [q4]
        exact pk_eq ch h (fun z => ⟨iw, nm_e (nm_r (nI_1 k) (skip z))⟩) (fun z => take z)
    · subst w2
      exact br_t tw_m1neg.2 (fin b w' top e g K' po' hd' B' w1 h3 h4 h5)
theorem tw_layRow {post : St1 → Prop} {c l rs rm : Int32} {a1 a2 a3 a4 a5 a6 a7 a8 a9 a10 a11 a12 a13 a14 a15 a16 a17 a18 a19 a20 a21 a22 a23 a24 a25 : Nat → Int32} {n : Nat} {p dp sz : Nat → Nat} (T : tw_T n p dp) (hK : tw_K n p a2 a3) (hZ : tw_Z n p sz) (hh : tw_hv n p a8)
    (H : ∀ e f g h hd pl, tw_H n p sz hd pl e f g → post (c, l, rs, rm, a1, a2, a3, a4, a5, a6, a7, a8, e, f, g, h, a13, a14, a15, a16, a17, a18, a19, a20, a21, a22, a23, a24, a25)) : wpX_layRow post (c, l, rs, rm, a1, a2, a3, a4, a5, a6, a7, a8, a9, a10, a11, a12, a13, a14, a15, a16, a17, a18, a19, a20, a21, a22, a23, a24, a25) := by
  have hn := T.2.1
  have hs : ∀ v, v < n → 1 ≤ sz v := fun v hv => by have := hZ.2 v hv; omega
  unfold wpX_layRow
  refine nm_e (nm_e ?_)
  refine pk_loop (σ := Nat × (Nat → Int32) × (Nat → Int32) × (Nat → Int32) × (Nat → Int32)) (fun k i s => wX_layRow_18 post c l rs rm k (nI s.1) (nI i) a1 a2 a3 a4 a5 a6 a7 a8 s.2.1 s.2.2.1 s.2.2.2.1 s.2.2.2.2 a13 a14 a15 a16 a17 a18 a19 a20 a21 a22 a23 a24 a25) (fun i s => ∃ N K po hd B, tw_ly n p sz i s.1 i (fun _ => True) N K po hd B ∧ tw_lm i s.1 N K hd s.2.1 s.2.2.2.2 ∧ (∀ j, j < i → s.2.2.2.1 j = nI (N j) ∧ s.2.2.1 (N j) = nI j)) 24 0 (1, upd a9 0 0, a10, a11, upd a12 0 0) (by omega) ?_ ?_ ?_
  · refine ⟨fun _ => 0, fun _ => 0, fun _ => 0, fun _ => 0, fun t => if t = 0 then n else 0, tw_ly_0 T.1 hZ.1 rfl rfl rfl rfl rfl, ⟨fun x hx => ?_, fun t ht => ?_⟩, fun j hj => absurd hj (by omega)⟩
    · rcases hx with ⟨j, hj, _⟩ | ⟨t, ht, et⟩
      · omega
      · dsimp only at et ⊢
        rw [← et, pk_us]
        rfl
    · dsimp only at ht ⊢
      rw [show t = 0 by omega, pk_us]
      rfl
  · intro k ⟨w, e, f, g, h⟩ ⟨N, K, po, hd, B, h1, h2, h3⟩
    dsimp only at h1 h2 h3 ⊢
    exact pk_le 24 24 (fun _ => H e f g h hd po (tw_ly_end T hs h1 (Or.inr hn) h2.1 h3)) (fun z => absurd z (by omega))
  · intro k i ⟨w, e, f, g, h⟩ hi ⟨N, K, po, hd, B, h1, h2, h3⟩ hw
    dsimp only at h1 h2 h3 hw ⊢
    have hwn := tw_ly_w h1
    refine pk_le 24 i (fun z => absurd z (by omega)) (fun _ => ?_)
    refine pk_le w 0 (fun z => H e f g h hd po (tw_ly_end T hs h1 (Or.inl (by omega)) h2.1 h3)) (fun hw0 => ?_)
    have pop := tw_ly_pop (w := w - 1) (v := K (w - 1)) (by rw [show w - 1 + 1 = w by omega]; exact h1) rfl rfl
    obtain ⟨p1, p2, p3, p4⟩ := pop
    have e1 := h2.2 (w - 1) (by omega)
    have e3 := h2.1 (K (w - 1)) (Or.inr ⟨w - 1, by omega, rfl⟩)
    generalize hv : K (w - 1) = v at *
    have ew : (nI (w - 1)).toNatClampNeg = w - 1 := nI_clamp (by omega)
    have iw : vp_in (nI (w - 1)) 25 := vp_in_nI (by omega) (by omega)
    have ev : (nI v).toNatClampNeg = v := nI_clamp (by omega)
    have iv : vp_in (nI v) 24 := vp_in_nI (by omega) (by omega)
    have ei : (nI i).toNatClampNeg = i := nI_clamp (by omega)
    have ii : vp_in (nI i) 32 := vp_in_nI (by omega) (by omega)
    refine nm_r (e' := nI (w - 1)) (sb_m1 hw0) ⟨iw, nm_r (e' := nI v) (by rw [ew]; exact e1) ?_⟩
    rw [ev, ei]
    refine ⟨iv, nm_e ⟨ii, nm_e ⟨iv, nm_e ?_⟩⟩⟩
    refine tw_layRow_63 (N := tw_u N i v) (K := K) (po := po) (hd := hd) (B := B) T hK hZ hh p2 tw_us p1 ⟨fun x hx => ?_, fun t ht => h2.2 t (by omega)⟩ (fun w' e' h' K' po' hd' B' q1 q2 => ?_)
    · refine h2.1 x ?_
      rcases hx with ⟨j, hj, ej⟩ | ⟨t, ht, et⟩
      · by_cases q : j = i
        · rw [q, tw_us] at ej
          exact Or.inr ⟨w - 1, by omega, by rw [hv]; exact ej⟩
        · rw [tw_un q] at ej
          exact Or.inl ⟨j, by omega, ej⟩
      · exact Or.inr ⟨t, by omega, et⟩
    · refine hw (w', e', upd f v (nI i), upd g i (nI v), h') ⟨_, K', po', hd', B', q1, q2, fun j hj => ?_⟩
      dsimp only
      by_cases q : j = i
      · rw [q, tw_us, pk_us, pk_us]
        exact ⟨rfl, rfl⟩
      · rw [tw_un q, pk_un q, pk_un (p4 j (by omega))]
        exact h3 j (by omega)
end
section
theorem tw_fillRow_113 {post : St1 → Prop} {c l rs rm : Int32} {a1 a2 a3 a4 a5 a6 a7 a8 a9 a10 a11 a12 a13 a14 a15 a16 a17 a18 a19 a20 a21 a22 a23 a24 a25 : Nat → Int32} (hJ : ∀ j, 1 ≤ j → j < 32 → tw_J a13 a15 j) (H : ∀ P, (∀ j, 1 ≤ j → j < 32 → tw_J a13 P j) → post (c, l, rs, rm, a1, a2, a3, a4, a5, a6, a7, a8, a9, a10, a11, a12, a13, a14, P, a16, a17, a18, a19, a20, a21, a22, a23, a24, a25)) : ∃ fu, wX_fillRow_113 post c l rs rm fu 32 a1 a2 a3 a4 a5 a6 a7 a8 a9 a10 a11 a12 a13 a14 a15 a16 a17 a18 a19 a20 a21 a22 a23 a24 a25 := by
  refine pk_loop (σ := Nat → Int32) (fun k i s => wX_fillRow_113 post c l rs rm k (nI i) a1 a2 a3 a4 a5 a6 a7 a8 a9 a10 a11 a12 a13 a14 s a16 a17 a18 a19 a20 a21 a22 a23 a24 a25) (fun i s => 32 ≤ i ∧ ∀ j, 1 ≤ j → j < 32 → tw_J a13 s j) 64 32 a15 (by omega) ⟨Nat.le_refl 32, hJ⟩ ?_ ?_
  · intro k P ⟨_, hP⟩
    exact pk_le 64 64 (fun _ => H P hP) (fun z => absurd z (by omega))
  · intro k i P hi ⟨h1, hP⟩ hw
    have ei : (nI i).toNatClampNeg = i := nI_clamp (by omega)
    refine pk_le 64 i (fun z => absurd z (by omega)) (fun _ => ⟨pk_in i 64 (by omega), nm_e (nm_r (nI_1 i) ?_)⟩)
    rw [ei]
    refine hw (upd P i 0) ⟨by omega, fun j j1 j2 => ?_⟩
    have := hP j j1 j2
    unfold tw_J at *
    rw [pk_un (by omega)]
    exact this
theorem tw_fillRow_88 {post : St1 → Prop} {c l rs rm : Int32} {a1 a2 a3 a4 a5 a6 a7 a8 a9 a10 a11 a12 a13 a14 a15 a16 a17 a18 a19 a20 a21 a22 a23 a24 a25 : Nat → Int32} (H : ∀ S M P, (∀ j, 1 ≤ j → j < 32 → tw_J S P j) → post (c, l, rs, rm, a1, a2, a3, a4, a5, a6, a7, a8, a9, a10, a11, a12, S, M, P, a16, a17, a18, a19, a20, a21, a22, a23, a24, a25)) : ∃ fu, wX_fillRow_88 post fu 31 c l rs rm a1 a2 a3 a4 a5 a6 a7 a8 a9 a10 a11 a12 a13 a14 a15 a16 a17 a18 a19 a20 a21 a22 a23 a24 a25 := by
  refine ⟨31 + 1, ?_⟩
  refine pk_loopD (σ := (Nat → Int32) × (Nat → Int32) × (Nat → Int32)) (fun k i s => wX_fillRow_88 post k (nI i) c l rs rm a1 a2 a3 a4 a5 a6 a7 a8 a9 a10 a11 a12 s.1 s.2.1 s.2.2 a16 a17 a18 a19 a20 a21 a22 a23 a24 a25) (fun i s => i < 32 ∧ ∀ j, i < j → j < 32 → tw_J s.1 s.2.2 j) ?_ ?_ 31 (a13, a14, a15) ⟨by omega, fun j j1 j2 => absurd j1 (by omega)⟩
  · intro k ⟨S, M, P⟩ ⟨_, hI⟩
    exact pk_le 0 0 (fun _ => tw_fillRow_113 (fun j j1 j2 => hI j (by omega) j2) (fun P' hP => H S M P' hP)) (fun z => absurd z (by omega))
  · intro k i ⟨S, M, P⟩ ⟨h1, hI⟩ hw
    dsimp only at hI hw ⊢
    have ei : (nI (i + 1)).toNatClampNeg = i + 1 := nI_clamp (by omega)
    refine pk_le (i + 1) 0 (fun z => absurd z (by omega)) (fun _ => ⟨pk_in (i + 1) 64 (by omega), nm_e ?_⟩)
    rw [ei]
    refine tw_join h1 (fun M' => nm_r (pk_m1 i) ?_)
    refine hw (upd S (i + 1) (S (2 * (i + 1)) + S (2 * (i + 1) + 1)), M', upd P (i + 1) 0) ⟨by omega, fun j j1 j2 => ?_⟩
    dsimp only
    unfold tw_J
    by_cases q : j = i + 1
    · rw [q, pk_us, pk_us, pk_un (by omega), pk_un (by omega)]
      grind
    · have := hI j (by omega) j2
      unfold tw_J at this
      rw [pk_un q, pk_un q, pk_un (by omega), pk_un (by omega)]
      exact this
theorem tw_fillRow {post : St1 → Prop} {c l rs rm : Int32} {a1 a2 a3 a4 a5 a6 a7 a8 a9 a10 a11 a12 a13 a14 a15 a16 a17 a18 a19 a20 a21 a22 a23 a24 a25 : Nat → Int32} {n : Nat} (hc : c = nI n) (hn : n ≤ 24) (h11 : ∀ i, i < n → ∃ x, x < 24 ∧ a11 i = nI x) (H : ∀ S M P, (∀ j, 1 ≤ j → j < 32 → tw_J S P j) → post (c, l, rs, rm, a1, a2, a3, a4, a5, a6, a7, a8, a9, a10, a11, a12, S, M, P, a16, a17, a18, a19, a20, a21, a22, a23, a24, a25)) : wpX_fillRow post (c, l, rs, rm, a1, a2, a3, a4, a5, a6, a7, a8, a9, a10, a11, a12, a13, a14, a15, a16, a17, a18, a19, a20, a21, a22, a23, a24, a25) := by
  subst hc
  unfold wpX_fillRow
  refine pk_loop (σ := (Nat → Int32) × (Nat → Int32)) (fun k i s => wX_fillRow_2 post (nI n) l rs rm k (nI i) a1 a2 a3 a4 a5 a6 a7 a8 a9 a10 a11 a12 s.1 s.2 a15 a16 a17 a18 a19 a20 a21 a22 a23 a24 a25) (fun _ _ => True) 32 0 (a13, a14) (by omega) trivial ?_ ?_
  · intro k ⟨S, M⟩ _
    exact pk_le 32 32 (fun _ => tw_fillRow_88 H) (fun z => absurd z (by omega))
  · intro k i ⟨S, M⟩ hi _ hw
    dsimp only at hw ⊢
    have i32 : vp_in (nI i) 32 := vp_in_nI hi (by omega)
    have i64 : vp_in (nI (32 + i)) 64 := vp_in_nI (by omega) (by omega)
    have ei : (nI i).toNatClampNeg = i := nI_clamp (by omega)
    refine pk_le 32 i (fun z => absurd z (by omega)) (fun _ => ?_)
    refine pk_le n i (fun z => ?_) (fun z => ?_)
    · unfold wX_fillRow_21
      refine br_t rfl ?_
      unfold wX_fillRow_49
      rw [tw_32]
      exact ⟨i64, nm_e (br_t rfl ⟨i64, nm_e (nm_r (nI_1 i) (hw (_, _) trivial))⟩)⟩
    · obtain ⟨x, hx, ex⟩ := h11 i z
      have ix : vp_in (nI x) 24 := vp_in_nI hx (by omega)
      unfold wX_fillRow_21
      refine br_f (by decide) ?_
      unfold wX_fillRow_49
      rw [tw_32, ei, ex]
      exact ⟨i32, ix, i64, nm_e (br_f (by decide) ⟨i32, ix, i64, nm_e (nm_r (nI_1 i) (hw (_, _) trivial))⟩)⟩
/-- cut nodes as a row of marks -/
def tw_X (n : Nat) (X : Nat → Prop) (a16 : Nat → Int32) : Prop := ∀ x, x < n → (X x → a16 x = 1) ∧ (¬ X x → a16 x = 0)
theorem tw_clearNear {post : St1 → Prop} {c l rs rm : Int32} {a1 a2 a3 a4 a5 a6 a7 a8 a9 a10 a11 a12 a13 a14 a15 a16 a17 a18 a19 a20 a21 a22 a23 a24 a25 : Nat → Int32} {n : Nat} (hc : c = nI n) (hn : n ≤ 24) (H : ∀ e f g, tw_X n (fun _ => False) e → (∀ k, k < 600 → f k = 0 ∧ g k = 0) → post (c, l, rs, rm, a1, a2, a3, a4, a5, a6, a7, a8, a9, a10, a11, a12, a13, a14, a15, e, a17, f, g, a20, a21, a22, a23, a24, a25)) : wpX_clearNear post (c, l, rs, rm, a1, a2, a3, a4, a5, a6, a7, a8, a9, a10, a11, a12, a13, a14, a15, a16, a17, a18, a19, a20, a21, a22, a23, a24, a25) := by
  subst hc
  unfold wpX_clearNear
  refine pk_loop (σ := (Nat → Int32) × (Nat → Int32)) (fun k i s => wX_clearNear_2 post (nI n) l rs rm k (nI i) a1 a2 a3 a4 a5 a6 a7 a8 a9 a10 a11 a12 a13 a14 a15 a16 a17 s.1 s.2 a20 a21 a22 a23 a24 a25) (fun i s => ∀ k, k < i → s.1 k = 0 ∧ s.2 k = 0) 600 0 (a18, a19) (by omega) (fun k z => absurd z (by omega)) ?_ ?_
  · intro k ⟨f, g⟩ hI
    refine pk_le 600 600 (fun _ => ?_) (fun z => absurd z (by omega))
    refine pk_loop (σ := Nat → Int32) (fun k i s => wX_clearNear_31 post (nI n) l rs rm k (nI i) a1 a2 a3 a4 a5 a6 a7 a8 a9 a10 a11 a12 a13 a14 a15 s a17 f g a20 a21 a22 a23 a24 a25) (fun i s => ∀ k, k < i → s k = 0) n 0 a16 (by omega) (fun k z => absurd z (by omega)) ?_ ?_
    · intro k e hE
      exact pk_le n n (fun _ => H e f g (fun x hx => ⟨fun z => z.elim, fun _ => hE x hx⟩) hI) (fun z => absurd z (by omega))
    · intro k i e hi hE hw
      have ei : (nI i).toNatClampNeg = i := nI_clamp (by omega)
      refine pk_le n i (fun z => absurd z (by omega)) (fun _ => ⟨pk_in i 24 (by omega), nm_e (nm_r (nI_1 i) ?_)⟩)
      rw [ei]
      refine hw (upd e i 0) (fun x hx => ?_)
      by_cases q : x = i
      · rw [q, pk_us]
      · rw [pk_un q]
        exact hE x (by omega)
  · intro k i ⟨f, g⟩ hi hI hw
    dsimp only at hI hw ⊢
    have ei : (nI i).toNatClampNeg = i := nI_clamp (by omega)
    refine pk_le 600 i (fun z => absurd z (by omega)) (fun _ => ⟨pk_in i 600 (by omega), nm_e ⟨pk_in i 600 (by omega), nm_e (nm_r (nI_1 i) ?_)⟩⟩)
    rw [ei]
    refine hw (upd f i 0, upd g i 0) (fun x hx => ?_)
    dsimp only
    by_cases q : x = i
    · rw [q, pk_us, pk_us]
      exact ⟨rfl, rfl⟩
    · rw [pk_un q, pk_un q]
      exact hI x (by omega)
/-- arrays that match a listing -/
def tw_fm (p dp : Nat → Nat) (s m : Nat) (F Fr : Nat → Nat) (a20 a21 a22 : Nat → Int32) : Prop :=
  (∀ j, j < m → a20 j = nI (F j) ∧ a22 j = nI (tw_d p dp s (F j))) ∧ a21 0 = -1 ∧ (∀ j, 0 < j → j < m → a21 j = nI (Fr j))
theorem tw_offer {post : Int32 → St1 → Prop} {c l rs rm : Int32} {a1 a2 a3 a4 a5 a6 a7 a8 a9 a10 a11 a12 a13 a14 a15 a16 a17 a18 a19 a20 a21 a22 a23 a24 a25 : Nat → Int32} {n : Nat} {p dp : Nat → Nat} (T : tw_T n p dp) {X : Nat → Prop} {s i m w : Nat} {D D' : Nat → Prop} {F Fr : Nat → Nat} (hX : tw_X n X a16) (hb : tw_bf n p dp X s i m D F Fr) (hf : tw_fm p dp s m F Fr a20 a21 a22) (hi : i < m) (hn : tw_nb n p (F i) w) (hw : ¬ D w) (hD : ∀ z, D' z ↔ D z ∨ z = w)
    (H : ∀ m' e f g F' Fr', tw_bf n p dp X s i m' D' F' Fr' → tw_fm p dp s m' F' Fr' e f g → m ≤ m' → (∀ j, j < m → F' j = F j) → post (nI m') (c, l, rs, rm, a1, a2, a3, a4, a5, a6, a7, a8, a9, a10, a11, a12, a13, a14, a15, a16, a17, a18, a19, e, f, g, a23, a24, a25)) : wpX_offer post (c, l, rs, rm, a1, a2, a3, a4, a5, a6, a7, a8, a9, a10, a11, a12, a13, a14, a15, a16, a17, a18, a19, a20, a21, a22, a23, a24, a25) (nI w) (nI i) (nI m) := by
  have hn24 := T.2.1
  have hmn := tw_bf_n hb
  have hwn := tw_nb_lt T (hb.2.2.1 i hi).1 hn
  have ew : (nI w).toNatClampNeg = w := nI_clamp (by omega)
  have iw : vp_in (nI w) 24 := vp_in_nI (by omega) (by omega)
  have ei : (nI i).toNatClampNeg = i := nI_clamp (by omega)
  have ii : vp_in (nI i) 24 := vp_in_nI (by omega) (by omega)
  unfold wpX_offer
  dsimp only
  rw [ew, ei]
  refine ⟨iw, ?_⟩
  by_cases hXw : X w
  · rw [(hX w hwn).1 hXw]
    refine br_f (by decide) ?_
    exact H m a20 a21 a22 F Fr (tw_bf_no hb hD (Or.inl hXw)) hf (Nat.le_refl m) (fun _ _ => rfl)
  · rw [(hX w hwn).2 hXw]
    refine br_t rfl ⟨ii, ?_⟩
    have add : (0 < i → F (Fr i) ≠ w) → wX_offer_35 post (nI w) (nI i) (nI m) c l rs rm a1 a2 a3 a4 a5 a6 a7 a8 a9 a10 a11 a12 a13 a14 a15 a16 a17 a18 a19 a20 a21 a22 a23 a24 a25 := by
      intro hfr
      have ad := tw_bf_add T hb hi hn hw hD hXw hfr
      have hm1 := tw_bf_n ad.1
      have em : (nI m).toNatClampNeg = m := nI_clamp (by omega)
      have im : vp_in (nI m) 24 := vp_in_nI (by omega) (by omega)
      unfold wX_offer_35
      rw [em, ei, nI_1]
      refine ⟨im, nm_e ⟨im, nm_e ⟨ii, im, nm_e ?_⟩⟩⟩
      refine H (m + 1) (upd a20 m (nI w)) (upd a21 m (nI i)) (upd a22 m (a22 i + 1)) _ _ ad.1 ⟨fun j hj => ?_, by rw [pk_un (by omega)]; exact hf.2.1, fun j j0 hj => ?_⟩ (by omega) (fun j hj => tw_un (by omega))
      · by_cases q : j = m
        · rw [q, pk_us, pk_us, tw_us, (hf.1 i hi).2, nI_1, ad.2]
          exact ⟨rfl, rfl⟩
        · rw [pk_un q, pk_un q, tw_un q]
          exact hf.1 j (by omega)
      · by_cases q : j = m
        · rw [q, pk_us, tw_us]
        · rw [pk_un q, tw_un q]
          exact hf.2.2 j j0 (by omega)
    rcases Nat.eq_zero_or_pos i with z | z
    · refine br_t (by rw [z, hf.2.1]; exact tw_m1neg.2) (add (fun y => absurd y (by omega)))
    · have e1 := hf.2.2 i z hi
      have hfi := (hb.2.2.2.2.1 i z hi).2.1
      have efr : (nI (Fr i)).toNatClampNeg = Fr i := nI_clamp (by omega)
      have ifr : vp_in (nI (Fr i)) 24 := vp_in_nI (by omega) (by omega)
      rw [e1, efr, (hf.1 (Fr i) (by omega)).1]
      refine br_f (nI_pos (by omega)) ⟨ii, ifr, ?_⟩
      have hF := (hb.2.2.1 (Fr i) (by omega)).1
      exact pk_eq (F (Fr i)) w (fun y => H m a20 a21 a22 F Fr (tw_bf_no hb hD (Or.inr (tw_bf_fr hb z hi y))) hf (Nat.le_refl m) (fun _ _ => rfl)) (fun y => add (fun _ => y))
end
section
theorem tw_listPiece_75 {post : Int32 → St1 → Prop} {J : Int32 → Int32 → Int32 → Int32 → Int32 → Int32 → (Nat → Int32) → (Nat → Int32) → (Nat → Int32) → (Nat → Int32) → (Nat → Int32) → (Nat → Int32) → (Nat → Int32) → (Nat → Int32) → (Nat → Int32) → (Nat → Int32) → (Nat → Int32) → (Nat → Int32) → (Nat → Int32) → (Nat → Int32) → (Nat → Int32) → (Nat → Int32) → (Nat → Int32) → (Nat → Int32) → (Nat → Int32) → (Nat → Int32) → (Nat → Int32) → (Nat → Int32) → (Nat → Int32) → (Nat → Int32) → (Nat → Int32) →  Prop} {c l rs rm : Int32} {a1 a2 a3 a4 a5 a6 a7 a8 a9 a10 a11 a12 a13 a14 a15 a16 a17 a18 a19 a20 a21 a22 a23 a24 a25 : Nat → Int32} {n i m v s : Nat} {p dp F Fr : Nat → Nat} {X : Nat → Prop} (T : tw_T n p dp) (hK : tw_K n p a2 a3) (hX : tw_X n X a16)
    (hb : tw_bf n p dp X s i m (tw_D p v 1) F Fr) (hf : tw_fm p dp s m F Fr a20 a21 a22) (hi : i < m) (hv : F i = v)
    (H : ∀ m' e f g F' Fr', tw_bf n p dp X s (i + 1) m' (fun _ => False) F' Fr' → tw_fm p dp s m' F' Fr' e f g → m ≤ m' → J (nI m') (nI (i + 1)) c l rs rm a1 a2 a3 a4 a5 a6 a7 a8 a9 a10 a11 a12 a13 a14 a15 a16 a17 a18 a19 e f g a23 a24 a25) :
    ∃ fu, wX_listPiece_75 post J (nI i) fu (nI m) (a2 v) 0 c l rs rm a1 a2 a3 a4 a5 a6 a7 a8 a9 a10 a11 a12 a13 a14 a15 a16 a17 a18 a19 a20 a21 a22 a23 a24 a25 := by
  have hn := T.2.1
  have hvn : v < n := by rw [← hv]; exact (hb.2.2.1 i hi).1
  refine pk_loop (σ := Nat × Int32 × (Nat → Int32) × (Nat → Int32) × (Nat → Int32)) (fun q k s => wX_listPiece_75 post J (nI i) q (nI s.1) s.2.1 (nI k) c l rs rm a1 a2 a3 a4 a5 a6 a7 a8 a9 a10 a11 a12 a13 a14 a15 a16 a17 a18 a19 s.2.2.1 s.2.2.2.1 s.2.2.2.2 a23 a24 a25) (fun k t => ∃ b F' Fr', k + 1 ≤ b ∧ tw_ch n p v b t.2.1 ∧ tw_bf n p dp X s i t.1 (tw_D p v b) F' Fr' ∧ tw_fm p dp s t.1 F' Fr' t.2.2.1 t.2.2.2.1 t.2.2.2.2 ∧ m ≤ t.1 ∧ F' i = v) 24 0 (m, a2 v, a20, a21, a22) (by omega) ?_ ?_ ?_
  · exact ⟨1, F, Fr, Nat.le_refl 1, hK.1 v hvn, hb, hf, Nat.le_refl m, hv⟩
  · intro q ⟨m', x, e, f, g⟩ ⟨b, F', Fr', h1, h2, h3, h4, h5, h6⟩
    dsimp only at h2 h3 h4 h5 h6 ⊢
    refine pk_le 24 24 (fun _ => nm_r (nI_1 i) (H m' e f g F' Fr' (tw_bf_next h3 (by omega) ?_) h4 h5)) (fun z => absurd z (by omega))
    rw [h6]
    exact tw_D_e (fun y y1 y2 => absurd y1 (by omega))
  · intro q k ⟨m', x, e, f, g⟩ hk ⟨b, F', Fr', h1, h2, h3, h4, h5, h6⟩ hw
    dsimp only at h2 h3 h4 h5 h6 hw ⊢
    refine pk_le 24 k (fun z => absurd z (by omega)) (fun _ => ?_)
    rcases h2 with ⟨w, w1, w2, w3, w4, w5⟩ | ⟨w1, w2⟩
    · subst w5
      have ew : (nI w).toNatClampNeg = w := nI_clamp (by omega)
      have iw : vp_in (nI w) 24 := vp_in_nI (by omega) (by omega)
      have hnx := hK.2 w (by omega) w2
      rw [w3] at hnx
      refine br_f (nI_pos (by omega)) ?_
      refine tw_offer (D' := tw_D p v (w + 1)) T hX h3 h4 (by omega) (Or.inr ⟨by omega, w2, by rw [h6]; exact w3⟩) (tw_D_n T hvn (by omega) w1 w2 w3) (tw_D_s (n := n) (by omega) w1 w3 w4) (fun m2 e2 f2 g2 F2 Fr2 q1 q2 q3 q4 => ⟨iw, nm_r (e' := a3 w) (by rw [ew]) (nm_r (nI_1 k) ?_)⟩)
      exact hw (m2, a3 w, e2, f2, g2) ⟨w + 1, F2, Fr2, by omega, hnx, q1, q2, by dsimp only; omega, by rw [q4 i (by omega)]; exact h6⟩
    · subst w2
      refine br_t tw_m1neg.2 (nm_r (nI_1 i) (H m' e f g F' Fr' (tw_bf_next h3 (by omega) ?_) h4 h5))
      rw [h6]
      exact tw_D_e w1
theorem tw_listPiece {post : Int32 → St1 → Prop} {c l rs rm : Int32} {a1 a2 a3 a4 a5 a6 a7 a8 a9 a10 a11 a12 a13 a14 a15 a16 a17 a18 a19 a20 a21 a22 a23 a24 a25 : Nat → Int32} {n s : Nat} {p dp : Nat → Nat} {X : Nat → Prop} (T : tw_T n p dp) (hP : tw_P n p a1) (hK : tw_K n p a2 a3) (hX : tw_X n X a16) (hs : s < n) (hXs : ¬ X s)
    (H : ∀ m e f g F Fr, tw_ls n p dp X s m F → tw_fm p dp s m F Fr e f g → (∀ j, 0 < j → j < m → Fr j < j) → post (nI m) (c, l, rs, rm, a1, a2, a3, a4, a5, a6, a7, a8, a9, a10, a11, a12, a13, a14, a15, a16, a17, a18, a19, e, f, g, a23, a24, a25)) : wpX_listPiece post (c, l, rs, rm, a1, a2, a3, a4, a5, a6, a7, a8, a9, a10, a11, a12, a13, a14, a15, a16, a17, a18, a19, a20, a21, a22, a23, a24, a25) (nI s) := by
  have hn := T.2.1
  unfold wpX_listPiece
  refine nm_e (nm_e (nm_e ?_))
  have fin : ∀ (m i : Nat) (e f g : Nat → Int32) (F Fr : Nat → Nat), m ≤ i → tw_bf n p dp X s i m (fun _ => False) F Fr → tw_fm p dp s m F Fr e f g → post (nI m) (c, l, rs, rm, a1, a2, a3, a4, a5, a6, a7, a8, a9, a10, a11, a12, a13, a14, a15, a16, a17, a18, a19, e, f, g, a23, a24, a25) :=
    fun m i e f g F Fr hmi hb hf => H m e f g F Fr (tw_bf_ls T hb hmi) hf (fun j j0 hj => (hb.2.2.2.2.1 j j0 hj).2.1)
  refine pk_loop (σ := Nat × (Nat → Int32) × (Nat → Int32) × (Nat → Int32)) (fun k i t => wX_listPiece_25 post k (nI t.1) (nI i) c l rs rm a1 a2 a3 a4 a5 a6 a7 a8 a9 a10 a11 a12 a13 a14 a15 a16 a17 a18 a19 t.2.1 t.2.2.1 t.2.2.2 a23 a24 a25) (fun i t => i ≤ t.1 ∧ ∃ F Fr, tw_bf n p dp X s i t.1 (fun _ => False) F Fr ∧ tw_fm p dp s t.1 F Fr t.2.1 t.2.2.1 t.2.2.2) 24 0 (1, upd a20 0 (nI s), upd a21 0 (-1), upd a22 0 0) (by omega) ?_ ?_ ?_
  · refine ⟨by dsimp only; omega, fun _ => s, fun _ => 0, tw_bf_0 T hs hXs rfl, ⟨fun j hj => ?_, (show upd a21 0 (-1) 0 = -1 from pk_us), fun j j0 hj => absurd hj (by dsimp only; omega)⟩⟩
    dsimp only at hj ⊢
    rw [show j = 0 by omega, pk_us, pk_us, tw_d_self T hs]
    exact ⟨rfl, rfl⟩
  · intro k ⟨m, e, f, g⟩ ⟨h1, F, Fr, h2, h3⟩
    dsimp only at h1 h2 h3 ⊢
    have hm := tw_bf_n h2
    exact pk_le m 24 (fun _ => fin m 24 e f g F Fr (by omega) h2 h3) (fun z => absurd z (by omega))
  · intro k i ⟨m, e, f, g⟩ hi ⟨h1, F, Fr, h2, h3⟩ hw
    dsimp only at h1 h2 h3 hw ⊢
    have hm := tw_bf_n h2
    refine pk_le m i (fun z => fin m i e f g F Fr z h2 h3) (fun him => ?_)
    have hv := (h2.2.2.1 i him).1
    have ei : (nI i).toNatClampNeg = i := nI_clamp (by omega)
    have ii : vp_in (nI i) 24 := vp_in_nI (by omega) (by omega)
    refine pk_le 24 i (fun z => absurd z (by omega)) (fun _ => ⟨ii, nm_r (e' := nI (F i)) (by rw [ei]; exact (h3.1 i him).1) ?_⟩)
    have ev : (nI (F i)).toNatClampNeg = F i := nI_clamp (by omega)
    have iv : vp_in (nI (F i)) 24 := vp_in_nI (by omega) (by omega)
    have cont : ∀ m' e' f' g' F' Fr', tw_bf n p dp X s (i + 1) m' (fun _ => False) F' Fr' → tw_fm p dp s m' F' Fr' e' f' g' → m ≤ m' → wX_listPiece_25 post k (nI m') (nI (i + 1)) c l rs rm a1 a2 a3 a4 a5 a6 a7 a8 a9 a10 a11 a12 a13 a14 a15 a16 a17 a18 a19 e' f' g' a23 a24 a25 :=
      fun m' e' f' g' F' Fr' q1 q2 q3 => hw (m', e', f', g') ⟨by dsimp only; omega, F', Fr', q1, q2⟩
    refine pk_le (F i) 0 (fun z => ⟨iv, ?_⟩) (fun z => ⟨iv, ?_⟩)
    · refine nm_r (e' := a2 (F i)) (by rw [ev]) ?_
      have hb : tw_bf n p dp X s i m (tw_D p (F i) 1) F Fr := by
        rw [show F i = 0 by omega]
        exact tw_bf_D h2 tw_D_0
      exact tw_listPiece_75 T hK hX hb h3 him rfl cont
    · rw [ev, hP (F i) z hv]
      refine tw_offer (D' := tw_D p (F i) 1) T hX h2 h3 him (Or.inl ⟨z, rfl⟩) (fun y => y) (tw_D_1 z) (fun m2 e2 f2 g2 F2 Fr2 q1 q2 q3 q4 => ⟨iv, nm_r (e' := a2 (F i)) rfl ?_⟩)
      exact tw_listPiece_75 T hK hX q1 q2 (by omega) (q4 i him) (fun m' e' f' g' F' Fr' r1 r2 r3 => cont m' e' f' g' F' Fr' r1 r2 (by omega))
theorem tw_middleOf {post : Int32 → St1 → Prop} {c l rs rm : Int32} {a1 a2 a3 a4 a5 a6 a7 a8 a9 a10 a11 a12 a13 a14 a15 a16 a17 a18 a19 a20 a21 a22 a23 a24 a25 : Nat → Int32} {m : Nat} (hm0 : 0 < m) (hm : m ≤ 24) (h21 : ∀ j, 0 < j → j < m → ∃ t, t < 24 ∧ a21 j = nI t) (H : ∀ b e, b < m → post (a20 b) (c, l, rs, rm, a1, a2, a3, a4, a5, a6, a7, a8, a9, a10, a11, a12, a13, a14, a15, a16, a17, a18, a19, a20, a21, a22, e, a24, a25)) : wpX_middleOf post (c, l, rs, rm, a1, a2, a3, a4, a5, a6, a7, a8, a9, a10, a11, a12, a13, a14, a15, a16, a17, a18, a19, a20, a21, a22, a23, a24, a25) (nI m) := by
  unfold wpX_middleOf
  refine pk_loop (σ := Nat → Int32) (fun k i s => wX_middleOf_2 post (nI m) c l rs rm k (nI i) a1 a2 a3 a4 a5 a6 a7 a8 a9 a10 a11 a12 a13 a14 a15 a16 a17 a18 a19 a20 a21 a22 s a24 a25) (fun _ _ => True) m 0 a23 (by omega) trivial ?_ ?_
  · intro k e _
    refine pk_le m m (fun _ => nm_r (e' := nI m + (-1)) (by grind) ⟨m + 1, ?_⟩) (fun z => absurd z (by omega))
    refine pk_loopD (σ := Nat × Int32 × (Nat → Int32)) (fun k i s => wX_middleOf_29 post (nI m) c l rs rm k (nI s.1) s.2.1 (nI i + (-1)) a1 a2 a3 a4 a5 a6 a7 a8 a9 a10 a11 a12 a13 a14 a15 a16 a17 a18 a19 a20 a21 a22 s.2.2 a24 a25) (fun i s => i ≤ m ∧ s.1 < m) ?_ ?_ m (0, 0, e) ⟨Nat.le_refl m, hm0⟩
    · intro k ⟨b, d, e⟩ ⟨_, hb⟩
      dsimp only at hb ⊢
      have eb : (nI b).toNatClampNeg = b := nI_clamp (by omega)
      refine br_t (by decide) ⟨vp_in_nI (by omega) (by omega), ?_⟩
      rw [eb]
      exact H b e hb
    · intro k i ⟨b, d, e⟩ ⟨hi, hb⟩ hw
      dsimp only at hi hb hw ⊢
      have ei : (nI i).toNatClampNeg = i := nI_clamp (by omega)
      have ii : vp_in (nI i) 24 := vp_in_nI (by omega) (by omega)
      have go : ∀ (b' : Nat) (d' : Int32), b' < m → wX_middleOf_56 post (wX_middleOf_29 post (nI m) c l rs rm k) (nI m) (nI b') d' (nI i) c l rs rm a1 a2 a3 a4 a5 a6 a7 a8 a9 a10 a11 a12 a13 a14 a15 a16 a17 a18 a19 a20 a21 a22 e a24 a25 := by
        intro b' d' hb'
        unfold wX_middleOf_56
        refine pk_le i 0 (fun z => nm_e (hw (b', d', e) ⟨by omega, hb'⟩)) (fun z => ?_)
        obtain ⟨t, ht, et⟩ := h21 i z (by omega)
        have it : vp_in (nI t) 24 := vp_in_nI (by omega) (by omega)
        rw [ei, et]
        exact ⟨ii, ii, it, ii, it, nm_e (nm_e (hw (b', d', _) ⟨by omega, hb'⟩))⟩
      rw [pk_m1]
      refine br_f (nI_pos (by omega)) (br_c (fun _ => ⟨ii, br_c (fun _ => go b d hb) (fun _ => go i 1 (by omega))⟩) (fun _ => go b d hb))
  · intro k i e hi _ hw
    exact pk_le m i (fun z => absurd z (by omega)) (fun _ => ⟨pk_in i 24 (by omega), nm_e (nm_r (nI_1 i) (hw _ trivial))⟩)
end
section
/-- what is known of a middle m: its piece, its rows, the next greater one -/
def tw_PF (n : Nat) (p dp : Nat → Nat) (X : Nat → Prop) (C : Nat → Nat → Prop) (rk : Nat → Nat) (a17 a18 a19 : Nat → Int32) (m : Nat) : Prop :=
  C m m ∧ (∀ u, C m u → u < n) ∧ (∀ k, k < 25 → a18 (25 * m + k) = nI (tw_n (fun u => C m u ∧ tw_d p dp m u = k) n)) ∧
  ((a17 m = -1 ∧ ∀ u, u < n → C m u) ∨ ∃ o, o < n ∧ X o ∧ a17 m = nI o ∧ rk o < rk m ∧ (∀ u, C m u → C o u) ∧ (∀ u v, C o u → ¬ C m u → C m v → tw_b p dp v o u) ∧ ∀ k, k < 25 → a19 (25 * m + k) = nI (tw_n (fun u => C m u ∧ tw_d p dp o u = k) n))
/-- the pieces as they are being parted: of q in the queue g are done -/
def tw_pq (n : Nat) (p dp : Nat → Nat) (X : Nat → Prop) (g q : Nat) (s o M rk : Nat → Nat) (C : Nat → Nat → Prop) : Prop :=
  (∀ j, j < q → s j < n) ∧ (∀ j, j < g → M j < n ∧ rk (M j) = j) ∧ (∀ x, X x ↔ ∃ j, j < g ∧ M j = x) ∧ g ≤ q ∧ 
  (∀ j, g ≤ j → j < q → ¬ X (s j)) ∧ (∀ j k, g ≤ j → j < q → g ≤ k → k < q → j ≠ k → ¬ tw_pc n p dp X (s j) (s k)) ∧
  (∀ u, u < n → ¬ X u → ∃ j, g ≤ j ∧ j < q ∧ tw_pc n p dp X (s j) u) ∧
  (∀ j, g ≤ j → j < q → 0 < j → X (o j) ∧ (∀ u, tw_pc n p dp X (s j) u → C (o j) u ∧ tw_d p dp (o j) u = tw_d p dp (s j) u + 1) ∧ (∀ u, C (o j) u → ¬ tw_pc n p dp X (s j) u → tw_b p dp (s j) (o j) u))
theorem tw_d1 {n : Nat} {p dp : Nat → Nat} (T : tw_T n p dp) {m t : Nat} (hm : m < n) (ht : t < n) (h : tw_d p dp m t = 1) : tw_nb n p m t := by
  have hne : t ≠ m := fun z => by rw [z, tw_d_self T hm] at h; omega
  obtain ⟨w, h1, h2, h3⟩ := tw_n3 T hm ht hne
  have := tw_d_0 T hm h2 (by omega)
  rw [← this] at h1
  exact tw_nb_sym T ht h1
theorem tw_nb1 {n : Nat} {p dp : Nat → Nat} (T : tw_T n p dp) {m t : Nat} (hm : m < n) (h : tw_nb n p m t) : tw_d p dp m t = 1 := by
  have := tw_n1 T hm hm h
  rw [tw_d_self T hm] at this
  omega
/-- nodes of a piece that a new cut node is not in -/
theorem tw_pc_keep {n : Nat} {p dp : Nat → Nat} (T : tw_T n p dp) {X X' : Nat → Prop} {s u m : Nat} (hs : s < n) (hm : m < n) (hX : ∀ x, X' x ↔ X x ∨ x = m) (h : tw_pc n p dp X s u) (hn : ¬ tw_pc n p dp X s m) : tw_pc n p dp X' s u := by
  refine ⟨h.1, fun x hx hXx z => ?_⟩
  rcases (hX x).mp hXx with q | q
  · exact h.2 x hx q z
  · rw [q] at z
    refine hn ⟨hm, fun y hy hXy b => h.2 y hy hXy ?_⟩
    have t1 := tw_tri T hs hy h.1
    have t2 := tw_tri T hy hm h.1
    unfold tw_b at *
    omega
theorem tw_pc_less {n : Nat} {p dp : Nat → Nat} {X X' : Nat → Prop} {s u m : Nat} (hX : ∀ x, X' x ↔ X x ∨ x = m) (h : tw_pc n p dp X' s u) : tw_pc n p dp X s u :=
  ⟨h.1, fun x hx hXx z => h.2 x hx ((hX x).mpr (Or.inl hXx)) z⟩
/-- not more in the queue than nodes, also while it grows -/
theorem tw_pq_n {n : Nat} {p dp : Nat → Nat} (T : tw_T n p dp) {X : Nat → Prop} {g q q' m : Nat} {s s' o M rk : Nat → Nat} {C : Nat → Nat → Prop} (h : tw_pq n p dp X g q s o M rk C) (hg : g < q) (hm : tw_pc n p dp X (s g) m) (hq : q ≤ q')
    (h1 : ∀ j, j < q → s' j = s j) (h2 : ∀ j, q ≤ j → j < q' → tw_pc n p dp X m (s' j) ∧ tw_d p dp m (s' j) = 1) (h3 : ∀ j k, q ≤ j → j < q' → q ≤ k → k < q' → s' j = s' k → j = k) : q' ≤ n := by
  obtain ⟨a, b, c, d, e, f, _, _⟩ := h
  have hsg := a g hg
  have hmX := tw_pc_X T hm
  have hMX : ∀ j, j < g → X (M j) := fun j hj => (c _).mpr ⟨j, hj, rfl⟩
  have Mi : ∀ j k, j < g → k < g → M j = M k → j = k := fun j k hj hk z => by
    have := (b j hj).2
    rw [z, (b k hk).2] at this
    exact this.symm
  have sm : ∀ j, g < j → j < q → s j ≠ m := fun j h1 h2 z => f g j (by omega) hg (by omega) h2 (by omega) (by rw [z]; exact hm)
  have nX : ∀ j, q ≤ j → j < q' → ¬ X (s' j) := fun j j1 j2 => tw_pc_X T (h2 j j1 j2).1
  have nm : ∀ j, q ≤ j → j < q' → s' j ≠ m := fun j j1 j2 z => by
    have := (h2 j j1 j2).2
    rw [z, tw_d_self T hm.1] at this
    omega
  have so : ∀ j k, g < j → j < q → q ≤ k → k < q' → s j ≠ s' k := fun j k j1 j2 k1 k2 z => by
    refine f g j (by omega) hg (by omega) j2 (by omega) ?_
    rw [z]
    exact tw_pc_tr T hm.1 (tw_pc_sym T hsg hm) (h2 k k1 k2).1
  have ss : ∀ j k, g < j → j < q → g < k → k < q → s j = s k → j = k := fun j k j1 j2 k1 k2 z => by
    by_cases y : j = k
    · exact y
    · refine absurd ?_ (f j k (by omega) j2 (by omega) k2 y)
      rw [← z]
      exact tw_pc_self T (a j j2) (e j (by omega) j2)
  have v1 : ∀ j, j < g → (if j < g then M j else if j = g then m else s' j) = M j := fun j hj => if_pos hj
  have v2 : (if g < g then M g else if g = g then m else s' g) = m := by rw [if_neg (by omega), if_pos rfl]
  have v3 : ∀ j, g < j → (if j < g then M j else if j = g then m else s' j) = s' j := fun j hj => by rw [if_neg (by omega), if_neg (by omega)]
  refine tw_pig n q' (fun j => if j < g then M j else if j = g then m else s' j) (fun j hj => ?_) (fun j k hj hk z => ?_)
  · show (if j < g then M j else if j = g then m else s' j) < n
    rcases Nat.lt_trichotomy j g with y | y | y
    · rw [v1 j y]; exact (b j y).1
    · rw [y, v2]; exact hm.1
    · rw [v3 j y]
      rcases Nat.lt_or_ge j q with x | x
      · rw [h1 j x]; exact a j x
      · exact (h2 j x hj).1.1
  · have z : (if j < g then M j else if j = g then m else s' j) = (if k < g then M k else if k = g then m else s' k) := z
    rcases Nat.lt_trichotomy j g with y | y | y
    · rcases Nat.lt_trichotomy k g with x | x | x
      · rw [v1 j y, v1 k x] at z; exact Mi j k y x z
      · rw [v1 j y, x, v2] at z; exact absurd (z ▸ hMX j y) hmX
      · rw [v1 j y, v3 k x] at z
        rcases Nat.lt_or_ge k q with r | r
        · rw [h1 k r] at z; exact absurd (z ▸ hMX j y) (e k (by omega) r)
        · exact absurd (z ▸ hMX j y) (nX k r hk)
    · rcases Nat.lt_trichotomy k g with x | x | x
      · rw [y, v2, v1 k x] at z; exact absurd (z ▸ hMX k x) hmX
      · omega
      · rw [y, v2, v3 k x] at z
        rcases Nat.lt_or_ge k q with r | r
        · rw [h1 k r] at z; exact absurd z.symm (sm k x r)
        · exact absurd z.symm (nm k r hk)
    · rcases Nat.lt_trichotomy k g with x | x | x
      · rw [v3 j y, v1 k x] at z
        rcases Nat.lt_or_ge j q with r | r
        · rw [h1 j r] at z; exact absurd (z ▸ hMX k x) (e j (by omega) r)
        · exact absurd (z ▸ hMX k x) (nX j r hj)
      · rw [x, v2, v3 j y] at z
        rcases Nat.lt_or_ge j q with r | r
        · rw [h1 j r] at z; exact absurd z (sm j y r)
        · exact absurd z (nm j r hj)
      · rw [v3 j y, v3 k x] at z
        rcases Nat.lt_or_ge j q with r | r
        · rcases Nat.lt_or_ge k q with t | t
          · rw [h1 j r, h1 k t] at z; exact ss j k y r x t z
          · rw [h1 j r] at z; exact absurd z (so j k y r t hk)
        · rcases Nat.lt_or_ge k q with t | t
          · rw [h1 k t] at z; exact absurd z.symm (so k j x t r hj)
          · exact h3 j k r hj t hk z
/-- a middle is cut out of its piece -/
theorem tw_pq_s {n : Nat} {p dp : Nat → Nat} (T : tw_T n p dp) {X X' : Nat → Prop} {g q q' m : Nat} {s s' o o' M M' rk rk' : Nat → Nat} {C C' : Nat → Nat → Prop} (h : tw_pq n p dp X g q s o M rk C) (hg : g < q) (hm : tw_pc n p dp X (s g) m) (hq : q ≤ q')
    (h1 : ∀ j, j < q → s' j = s j ∧ o' j = o j) (h2 : ∀ j, q ≤ j → j < q' → tw_pc n p dp X m (s' j) ∧ tw_d p dp m (s' j) = 1 ∧ o' j = m) (h3 : ∀ j k, q ≤ j → j < q' → q ≤ k → k < q' → s' j = s' k → j = k) (h4 : ∀ t, tw_pc n p dp X m t → tw_d p dp m t = 1 → ∃ j, q ≤ j ∧ j < q' ∧ s' j = t)
    (hX : ∀ x, X' x ↔ X x ∨ x = m) (hM : M' = tw_u M g m) (hr : rk' = tw_u rk m g) (hC : ∀ x u, C' x u ↔ (x = m ∧ tw_pc n p dp X m u) ∨ (x ≠ m ∧ C x u)) : tw_pq n p dp X' (g + 1) q' s' o' M' rk' C' := by
  obtain ⟨a, b, c, d, e, f, cv, k⟩ := h
  have hsg := a g hg
  have hmX := tw_pc_X T hm
  have hmm : tw_pc n p dp X m m := tw_pc_self T hm.1 hmX
  have hmg : tw_pc n p dp X m (s g) := tw_pc_sym T hsg hm
  have keep : ∀ j, g < j → j < q → ¬ tw_pc n p dp X (s j) m := fun j j1 j2 z => 
    f j g (by omega) j2 (by omega) hg (by omega) (tw_pc_tr T hm.1 (tw_pc_sym T (a j j2) z) hmg)
  have Xn : ∀ x, X x → x < n := fun x hx => by
    obtain ⟨j, j1, j2⟩ := (c x).mp hx
    rw [← j2]
    exact (b j j1).1
  have side : ∀ t u, tw_pc n p dp X m t → tw_d p dp m t = 1 → tw_pc n p dp X m u → (tw_pc n p dp X' t u ∧ tw_d p dp m u = tw_d p dp t u + 1) ∨ (¬ tw_pc n p dp X' t u ∧ tw_b p dp t m u) := by
    intro t u ht hd hu
    have nbt := tw_d1 T hm.1 ht.1 hd
    have c1 := tw_d_comm T hu.1 ht.1
    have c2 := tw_d_comm T hu.1 hm.1
    have c3 := tw_d_comm T ht.1 hm.1
    rcases tw_n1 T hu.1 hm.1 nbt with y | y
    · have bt : tw_b p dp t m u := by unfold tw_b; omega
      exact Or.inr ⟨fun z => z.2 m hm.1 ((hX m).mpr (Or.inr rfl)) bt, bt⟩
    · refine Or.inl ⟨⟨hu.1, fun x hx hXx z => ?_⟩, by omega⟩
      rcases (hX x).mp hXx with r | r
      · exact (tw_pc_tr T hm.1 ht hu).2 x hx r z
      · rw [r] at z
        unfold tw_b at z
        omega
  refine ⟨fun j hj => ?_, fun j hj => ?_, fun x => ?_, by omega, fun j j1 j2 => ?_, fun j k' j1 j2 k1 k2 hne z => ?_, fun u hu hXu => ?_, fun j j1 j2 j0 => ?_⟩
  · rcases Nat.lt_or_ge j q with y | y
    · rw [(h1 j y).1]; exact a j y
    · exact (h2 j y hj).1.1
  · rw [hM, hr]
    by_cases y : j = g
    · rw [y, tw_us, tw_us]
      exact ⟨hm.1, rfl⟩
    · have := b j (by omega)
      have ne : M j ≠ m := fun z => hmX ((c m).mpr ⟨j, by omega, z⟩)
      rw [tw_un y, tw_un ne]
      exact this
  · rw [hX, c, hM]
    constructor
    · intro y
      rcases y with ⟨j, j1, j2⟩ | y
      · exact ⟨j, by omega, by rw [tw_un (by omega)]; exact j2⟩
      · exact ⟨g, by omega, by rw [tw_us]; exact y.symm⟩
    · intro ⟨j, j1, j2⟩
      by_cases y : j = g
      · rw [y, tw_us] at j2
        exact Or.inr j2.symm
      · rw [tw_un y] at j2
        exact Or.inl ⟨j, by omega, j2⟩
  · intro z
    rcases Nat.lt_or_ge j q with y | y
    · rw [(h1 j y).1] at z
      rcases (hX _).mp z with r | r
      · exact e j (by omega) y r
      · exact keep j (by omega) y (by rw [← r]; exact tw_pc_self T (a j y) (e j (by omega) y))
    · have := h2 j y j2
      rcases (hX _).mp z with r | r
      · exact tw_pc_X T this.1 r
      · rw [r, tw_d_self T hm.1] at this
        omega
  · have z' := tw_pc_less hX z
    have on : ∀ j k', g + 1 ≤ j → j < q → q ≤ k' → k' < q' → ¬ tw_pc n p dp X (s j) (s' k') := fun j k' j1 j2 k1 k2 y => by
      have h5 := h2 k' k1 k2
      have h6 := tw_pc_tr T hm.1 hmg h5.1
      have h7 := tw_pc_sym T hsg h6
      have h8 := tw_pc_sym T (a j j2) y
      exact f j g (by omega) j2 (by omega) hg (by omega) (tw_pc_tr T h5.1.1 h8 h7)
    rcases Nat.lt_or_ge j q with y | y
    · rcases Nat.lt_or_ge k' q with x | x
      · rw [(h1 j y).1, (h1 k' x).1] at z'
        exact f j k' (by omega) y (by omega) x hne z'
      · rw [(h1 j y).1] at z'
        exact on j k' j1 y x k2 z'
    · rcases Nat.lt_or_ge k' q with x | x
      · rw [(h1 k' x).1] at z'
        exact on k' j k1 x y j2 (tw_pc_sym T (h2 j y j2).1.1 z')
      · have r1 := h2 j y j2
        have r2 := h2 k' x k2
        rcases side (s' j) (s' k') r1.1 r1.2.1 r2.1 with w | w
        · have := tw_d_0 T r1.1.1 r2.1.1 (by omega)
          exact hne (h3 j k' y j2 x k2 this)
        · exact w.1 z
  · have nX : ¬ X u := fun z => hXu ((hX u).mpr (Or.inl z))
    have nm : u ≠ m := fun z => hXu ((hX u).mpr (Or.inr z))
    obtain ⟨j, j1, j2, j3⟩ := cv u hu nX
    by_cases y : j = g
    · rw [y] at j3
      have hu' := tw_pc_tr T hsg hm j3
      obtain ⟨t, t1, t2, t3⟩ := tw_n3 T hu hm.1 (fun z => nm z.symm)
      have d1 := tw_nb1 T hm.1 t1
      have c1 := tw_d_comm T hu t2
      have c2 := tw_d_comm T hu hm.1
      have pt : tw_pc n p dp X m t := by
        refine ⟨t2, fun x hx hXx z => ?_⟩
        have t4 := tw_tri T hx t2 hu
        have t5 := tw_tri T hm.1 hx hu
        refine hu'.2 x hx hXx ?_
        unfold tw_b at *
        omega
      obtain ⟨i, i1, i2, i3⟩ := h4 t pt d1
      refine ⟨i, by omega, i2, ?_⟩
      rw [i3]
      rcases side t u pt d1 hu' with w | w
      · exact w.1
      · have := w.2
        unfold tw_b at this
        have c3 := tw_d_comm T t2 hm.1
        omega
    · refine ⟨j, by omega, by omega, ?_⟩
      rw [(h1 j j2).1]
      exact tw_pc_keep T (a j j2) hm.1 hX j3 (keep j (by omega) j2)
  · rcases Nat.lt_or_ge j q with y | y
    · obtain ⟨k1, k2, k3⟩ := k j (by omega) y j0
      have ne : o j ≠ m := fun z => hmX (z ▸ k1)
      rw [(h1 j y).1, (h1 j y).2]
      refine ⟨(hX _).mpr (Or.inl k1), fun u hu => ?_, fun u hu hn => ?_⟩
      · have := k2 u (tw_pc_less hX hu)
        exact ⟨(hC _ _).mpr (Or.inr ⟨ne, this.1⟩), this.2⟩
      · have hu' : C (o j) u := by
          rcases (hC _ _).mp hu with r | r
          · exact absurd r.1 ne
          · exact r.2
        exact k3 u hu' (fun z => hn (tw_pc_keep T (a j y) hm.1 hX z (keep j (by omega) y)))
    · obtain ⟨r1, r2, r3⟩ := h2 j y j2
      rw [r3]
      refine ⟨(hX _).mpr (Or.inr rfl), fun u hu => ?_, fun u hu hn => ?_⟩
      · have h5 := tw_pc_tr T r1.1 (tw_pc_sym T hm.1 r1) (tw_pc_less hX hu)
        refine ⟨(hC _ _).mpr (Or.inl ⟨rfl, h5⟩), ?_⟩
        rcases side (s' j) u r1 r2 h5 with w | w
        · exact w.2
        · exact absurd hu w.1
      · have hu' : tw_pc n p dp X m u := by
          rcases (hC _ _).mp hu with r | r
          · exact r.2
          · exact absurd rfl r.1
        rcases side (s' j) u r1 r2 hu' with w | w
        · exact absurd w.1 hn
        · exact w.2
end
section
/-- a row of counts as it is being filled -/
def tw_rw (n m i : Nat) (F δ : Nat → Nat) (a0 a : Nat → Int32) : Prop := (∀ j, j / 25 ≠ m → a j = a0 j) ∧ ∀ k, k < 25 → a (25 * m + k) = nI (tw_n (fun u => (∃ t, t < i ∧ F t = u) ∧ δ u = k) n)
theorem tw_rw_0 {n m : Nat} {F δ : Nat → Nat} {a : Nat → Int32} (h : ∀ k, k < 25 → a (25 * m + k) = 0) : tw_rw n m 0 F δ a a := by
  refine ⟨fun _ _ => rfl, fun k hk => ?_⟩
  rw [h k hk, tw_n_no n]
  · rfl
  · intro j _ z
    obtain ⟨⟨t, ht, _⟩, _⟩ := z
    omega
theorem tw_rw_s {n m i : Nat} {F δ : Nat → Nat} {a0 a : Nat → Int32} (h : tw_rw n m i F δ a0 a) (hF : F i < n) (hnew : ∀ t, t < i → F t ≠ F i) (hd : δ (F i) < 25) : tw_rw n m (i + 1) F δ a0 (upd a (25 * m + δ (F i)) (a (25 * m + δ (F i)) + 1)) := by
  refine ⟨fun j hj => ?_, fun k hk => ?_⟩
  · rw [pk_un (by omega)]
    exact h.1 j hj
  · by_cases e : k = δ (F i)
    · rw [← e, pk_us, h.2 k hk, nI_1]
      refine congrArg nI (tw_n_add (a := F i) n hF ?_ ⟨⟨i, by omega, rfl⟩, e.symm⟩ ?_).symm
      · intro ⟨⟨t, ht, et⟩, _⟩
        exact hnew t ht et
      · intro j _ hne
        constructor
        · intro ⟨⟨t, ht, et⟩, q⟩
          refine ⟨⟨t, ?_, et⟩, q⟩
          rcases Nat.lt_or_ge t i with y | y
          · exact y
          · rw [show t = i by omega] at et
            exact absurd et.symm hne
        · exact fun ⟨⟨t, ht, et⟩, q⟩ => ⟨⟨t, by omega, et⟩, q⟩
    · rw [pk_un (by omega), h.2 k hk]
      refine congrArg nI (tw_n_c n (fun j _ => ?_))
      constructor
      · exact fun ⟨⟨t, ht, et⟩, q⟩ => ⟨⟨t, by omega, et⟩, q⟩
      · intro ⟨⟨t, ht, et⟩, q⟩
        refine ⟨⟨t, ?_, et⟩, q⟩
        rcases Nat.lt_or_ge t i with y | y
        · exact y
        · rw [show t = i by omega] at et
          rw [et] at e
          exact absurd q.symm e
/-- a filled row counts a piece -/
theorem tw_rw_e {n m i : Nat} {F δ : Nat → Nat} {a0 a : Nat → Int32} {C : Nat → Prop} (h : tw_rw n m i F δ a0 a) (hC : ∀ u, C u ↔ ∃ t, t < i ∧ F t = u) : ∀ k, k < 25 → a (25 * m + k) = nI (tw_n (fun u => C u ∧ δ u = k) n) := by
  intro k hk
  rw [h.2 k hk]
  refine congrArg nI (tw_n_c n (fun j _ => ?_))
  try dsimp only
  rw [hC j]
theorem tw_ls_iff {n : Nat} {p dp : Nat → Nat} {X : Nat → Prop} {s m : Nat} {F : Nat → Nat} (h : tw_ls n p dp X s m F) (u : Nat) : tw_pc n p dp X s u ↔ ∃ t, t < m ∧ F t = u :=
  ⟨h.2.2.2.2 u, fun ⟨t, ht, et⟩ => et ▸ h.2.2.1 t ht⟩
theorem tw_PF_old {n : Nat} {p dp : Nat → Nat} {X X' : Nat → Prop} {C C' : Nat → Nat → Prop} {rk rk' : Nat → Nat} {a17 a18 a19 b17 b18 b19 : Nat → Int32} {m x g : Nat} {E : Nat → Prop} (h : tw_PF n p dp X C rk a17 a18 a19 x) (hm : ¬ X m) (hx : x ≠ m) (hX : ∀ y, X y → X' y) (hC : ∀ y u, C' y u ↔ (y = m ∧ E u) ∨ (y ≠ m ∧ C y u)) (hr : rk' = tw_u rk m g) (h17 : b17 x = a17 x) (h18 : ∀ j, j / 25 ≠ m → b18 j = a18 j) (h19 : ∀ j, j / 25 ≠ m → b19 j = a19 j) : tw_PF n p dp X' C' rk' b17 b18 b19 x := by
  have cc : ∀ y, y ≠ m → ∀ u, (C' y u ↔ C y u) := fun y hy u => by
    rw [hC]
    exact ⟨fun z => z.elim (fun q => absurd q.1 hy) (fun q => q.2), fun z => Or.inr ⟨hy, z⟩⟩
  obtain ⟨a, b, c, d⟩ := h
  refine ⟨(cc x hx x).mpr a, fun u hu => b u ((cc x hx u).mp hu), fun k hk => ?_, ?_⟩
  · rw [h18 _ (by omega), c k hk]
    refine congrArg nI (tw_n_c n (fun u _ => ?_))
    try dsimp only
    rw [cc x hx u]
  · rcases d with ⟨d1, d2⟩ | ⟨o, o1, o2, o3, o4, o5, o6, o7⟩
    · exact Or.inl ⟨by rw [h17]; exact d1, fun u hu => (cc x hx u).mpr (d2 u hu)⟩
    · have ho : o ≠ m := fun z => hm (z ▸ o2)
      refine Or.inr ⟨o, o1, hX o o2, by rw [h17]; exact o3, ?_, fun u hu => (cc o ho u).mpr (o5 u ((cc x hx u).mp hu)), fun u v h1 h2 h3 => o6 u v ((cc o ho u).mp h1) (fun z => h2 ((cc x hx u).mpr z)) ((cc x hx v).mp h3), fun k hk => ?_⟩
      · rw [hr, tw_un ho, tw_un hx]
        exact o4
      · rw [h19 _ (by omega), o7 k hk]
        refine congrArg nI (tw_n_c n (fun u _ => ?_))
        try dsimp only
        rw [cc x hx u]
/-- the new middle: nothing is around its piece -/
theorem tw_PF_top {n : Nat} {p dp : Nat → Nat} (T : tw_T n p dp) {X X' : Nat → Prop} {C' : Nat → Nat → Prop} {rk' : Nat → Nat} {b17 a18 b18 b19 : Nat → Int32} {m m2 : Nat} {F2 : Nat → Nat} (hm : m < n) (hX0 : ∀ x, ¬ X x) (hC : ∀ u, C' m u ↔ tw_pc n p dp X m u) (h17 : b17 m = -1) (hl : tw_ls n p dp X m m2 F2) (h18 : tw_rw n m m2 F2 (tw_d p dp m) a18 b18) : tw_PF n p dp X' C' rk' b17 b18 b19 m := by
  have all : ∀ u, u < n → C' m u := fun u hu => (hC u).mpr ⟨hu, fun x _ z => absurd z (hX0 x)⟩
  exact ⟨all m hm, fun u hu => ((hC u).mp hu).1, tw_rw_e h18 (fun u => (hC u).trans (tw_ls_iff hl u)), Or.inl ⟨h17, all⟩⟩
/-- the new middle, in a greater piece -/
theorem tw_PF_in {n : Nat} {p dp : Nat → Nat} (T : tw_T n p dp) {X X' : Nat → Prop} {C C' : Nat → Nat → Prop} {rk rk' : Nat → Nat} {b17 a18 a19 b18 b19 : Nat → Int32} {m m1 m2 s o g : Nat} {F1 F2 : Nat → Nat} (hs : s < n) (hm : tw_pc n p dp X s m) (hXo : X o) (hon : o < n) (hX : ∀ y, X y → X' y) (hC : ∀ y u, C' y u ↔ (y = m ∧ tw_pc n p dp X m u) ∨ (y ≠ m ∧ C y u)) (hr : rk' = tw_u rk m g) (hro : rk o < g) (h17 : b17 m = nI o)
    (k2 : ∀ u, tw_pc n p dp X s u → C o u ∧ tw_d p dp o u = tw_d p dp s u + 1) (k3 : ∀ u, C o u → ¬ tw_pc n p dp X s u → tw_b p dp s o u) (hCo : ∀ u, C o u → u < n)
    (hl1 : tw_ls n p dp X s m1 F1) (h19 : tw_rw n m m1 F1 (tw_d p dp o) a19 b19) (hl : tw_ls n p dp X m m2 F2) (h18 : tw_rw n m m2 F2 (tw_d p dp m) a18 b18) : tw_PF n p dp X' C' rk' b17 b18 b19 m := by
  have hmX := tw_pc_X T hm
  have ho : o ≠ m := fun z => hmX (z ▸ hXo)
  have cm : ∀ u, C' m u ↔ tw_pc n p dp X m u := fun u => by
    rw [hC]
    exact ⟨fun z => z.elim (fun q => q.2) (fun q => absurd rfl q.1), fun z => Or.inl ⟨rfl, z⟩⟩
  have co : ∀ u, C' o u ↔ C o u := fun u => by
    rw [hC]
    exact ⟨fun z => z.elim (fun q => absurd q.1 ho) (fun q => q.2), fun z => Or.inr ⟨ho, z⟩⟩
  have ms := tw_pc_sym T hs hm
  have eq : ∀ u, tw_pc n p dp X m u ↔ tw_pc n p dp X s u := fun u => ⟨fun z => tw_pc_tr T hm.1 ms z, fun z => tw_pc_tr T hs hm z⟩
  refine ⟨(cm m).mpr (tw_pc_self T hm.1 hmX), fun u hu => ((cm u).mp hu).1, tw_rw_e h18 (fun u => (cm u).trans (tw_ls_iff hl u)), Or.inr ⟨o, hon, hX o hXo, h17, ?_, fun u hu => ?_, fun u v h1 h2 h3 => ?_, ?_⟩⟩
  · rw [hr, tw_un ho, tw_us]
    exact hro
  · exact (co u).mpr (k2 u ((eq u).mp ((cm u).mp hu))).1
  · have hu : C o u := (co u).mp h1
    have hn : ¬ tw_pc n p dp X s u := fun z => h2 ((cm u).mpr ((eq u).mpr z))
    have hv : tw_pc n p dp X s v := (eq v).mp ((cm v).mp h3)
    rcases tw_m1 T hs hon (hCo u hu) hv.1 (k3 u hu hn) with q | q
    · exact absurd q (hv.2 o hon hXo)
    · exact q
  · exact tw_rw_e h19 (fun u => ((cm u).trans (eq u)).trans (tw_ls_iff hl1 u))
/-- all pieces, as they are used -/
def tw_Ce (n : Nat) (p dp : Nat → Nat) (a17 a18 a19 : Nat → Int32) : Prop := ∃ (C : Nat → Nat → Prop) (rk : Nat → Nat), ∀ m, m < n → rk m < 24 ∧ tw_PF n p dp (fun _ => True) C rk a17 a18 a19 m
theorem tw_PF_w {n : Nat} {p dp : Nat → Nat} {X : Nat → Prop} {C : Nat → Nat → Prop} {rk : Nat → Nat} {a17 a18 a19 : Nat → Int32} {x : Nat} (h : tw_PF n p dp X C rk a17 a18 a19 x) : tw_PF n p dp (fun _ => True) C rk a17 a18 a19 x := by
  obtain ⟨a, b, c, d⟩ := h
  refine ⟨a, b, c, ?_⟩
  rcases d with d | ⟨o, o1, o2, o3⟩
  · exact Or.inl d
  · exact Or.inr ⟨o, o1, trivial, o3⟩
end
section
theorem tw_25 (m : Nat) : (25 : Int32) * nI m = nI (25 * m) := pk_mul 25 m
theorem tw_pp77 {post : St1 → Prop} {J : Int32 → Int32 → Int32 → Int32 → Int32 → Int32 → (Nat → Int32) → (Nat → Int32) → (Nat → Int32) → (Nat → Int32) → (Nat → Int32) → (Nat → Int32) → (Nat → Int32) → (Nat → Int32) → (Nat → Int32) → (Nat → Int32) → (Nat → Int32) → (Nat → Int32) → (Nat → Int32) → (Nat → Int32) → (Nat → Int32) → (Nat → Int32) → (Nat → Int32) → (Nat → Int32) → (Nat → Int32) → (Nat → Int32) → (Nat → Int32) → (Nat → Int32) → (Nat → Int32) → (Nat → Int32) → (Nat → Int32) →  Prop} {c l rs rm : Int32} {a1 a2 a3 a4 a5 a6 a7 a8 a9 a10 a11 a12 a13 a14 a15 a16 a17 a18 a19 a20 a21 a22 a23 a24 a25 : Nat → Int32} {x1 x2 : Int32} {n m m1 : Nat} {F δ : Nat → Nat} (hn : n ≤ 24) (hm : m < n) (hm1 : m1 ≤ n) (hF : ∀ j, j < m1 → F j < n ∧ δ (F j) < 25 ∧ a22 j + 1 = nI (δ (F j))) (hi : ∀ j k, j < m1 → k < m1 → F j = F k → j = k) (hz : ∀ k, k < 25 → a19 (25 * m + k) = 0)
    (H : ∀ b, tw_rw n m m1 F δ a19 b → wX_partPieces_128 post J x1 x2 (nI m) c l rs rm a1 a2 a3 a4 a5 a6 a7 a8 a9 a10 a11 a12 a13 a14 a15 a16 a17 a18 b a20 a21 a22 a23 a24 a25) : ∃ fu, wX_partPieces_77 post J x1 x2 (nI m1) (nI m) c l rs rm fu 0 a1 a2 a3 a4 a5 a6 a7 a8 a9 a10 a11 a12 a13 a14 a15 a16 a17 a18 a19 a20 a21 a22 a23 a24 a25 := by
  refine pk_loop (σ := Nat → Int32) (fun k i s => wX_partPieces_77 post J x1 x2 (nI m1) (nI m) c l rs rm k (nI i) a1 a2 a3 a4 a5 a6 a7 a8 a9 a10 a11 a12 a13 a14 a15 a16 a17 a18 s a20 a21 a22 a23 a24 a25) (fun i s => tw_rw n m i F δ a19 s) m1 0 a19 (by omega) (tw_rw_0 hz) ?_ ?_
  · intro k b hb
    exact pk_le m1 m1 (fun _ => H b hb) (fun z => absurd z (by omega))
  · intro k i b hi1 hb hw
    obtain ⟨f1, f2, f3⟩ := hF i hi1
    have ei : (nI i).toNatClampNeg = i := nI_clamp (by omega)
    have ii : vp_in (nI i) 24 := vp_in_nI (by omega) (by omega)
    refine pk_le m1 i (fun z => absurd z (by omega)) (fun _ => ⟨ii, nm_r (e' := nI (δ (F i))) (by rw [ei]; exact f3) ?_⟩)
    have ix : vp_in (nI (25 * m + δ (F i))) 600 := vp_in_nI (by omega) (by omega)
    have ex : (nI (25 * m + δ (F i))).toNatClampNeg = 25 * m + δ (F i) := nI_clamp (by omega)
    rw [tw_25, nI_add, ex]
    refine ⟨ix, ix, nm_e (nm_r (nI_1 i) (hw (upd b (25 * m + δ (F i)) (b (25 * m + δ (F i)) + 1)) (tw_rw_s hb f1 (fun t ht z => ?_) f2)))⟩
    have := hi t i (by omega) hi1 z
    omega
theorem tw_pp138 {post : St1 → Prop} {J : Int32 → Int32 → Int32 → Int32 → Int32 → Int32 → (Nat → Int32) → (Nat → Int32) → (Nat → Int32) → (Nat → Int32) → (Nat → Int32) → (Nat → Int32) → (Nat → Int32) → (Nat → Int32) → (Nat → Int32) → (Nat → Int32) → (Nat → Int32) → (Nat → Int32) → (Nat → Int32) → (Nat → Int32) → (Nat → Int32) → (Nat → Int32) → (Nat → Int32) → (Nat → Int32) → (Nat → Int32) → (Nat → Int32) → (Nat → Int32) → (Nat → Int32) → (Nat → Int32) → (Nat → Int32) → (Nat → Int32) →  Prop} {c l rs rm : Int32} {a1 a2 a3 a4 a5 a6 a7 a8 a9 a10 a11 a12 a13 a14 a15 a16 a17 a18 a19 a20 a21 a22 a23 a24 a25 : Nat → Int32} {x1 x2 : Int32} {n m m1 : Nat} {F δ : Nat → Nat} (hn : n ≤ 24) (hm : m < n) (hm1 : m1 ≤ n) (hF : ∀ j, j < m1 → F j < n ∧ δ (F j) < 25 ∧ a22 j = nI (δ (F j))) (hi : ∀ j k, j < m1 → k < m1 → F j = F k → j = k) (hz : ∀ k, k < 25 → a18 (25 * m + k) = 0)
    (H : ∀ b, tw_rw n m m1 F δ a18 b → ∃ fu, wX_partPieces_199 post J x2 (nI m1) (nI m) c l rs rm fu x1 0 a1 a2 a3 a4 a5 a6 a7 a8 a9 a10 a11 a12 a13 a14 a15 (upd a16 m 1) a17 b a19 a20 a21 a22 a23 a24 a25) : ∃ fu, wX_partPieces_138 post J x1 x2 (nI m1) (nI m) c l rs rm fu 0 a1 a2 a3 a4 a5 a6 a7 a8 a9 a10 a11 a12 a13 a14 a15 a16 a17 a18 a19 a20 a21 a22 a23 a24 a25 := by
  refine pk_loop (σ := Nat → Int32) (fun k i s => wX_partPieces_138 post J x1 x2 (nI m1) (nI m) c l rs rm k (nI i) a1 a2 a3 a4 a5 a6 a7 a8 a9 a10 a11 a12 a13 a14 a15 a16 a17 s a19 a20 a21 a22 a23 a24 a25) (fun i s => tw_rw n m i F δ a18 s) m1 0 a18 (by omega) (tw_rw_0 hz) ?_ ?_
  · intro k b hb
    have em : (nI m).toNatClampNeg = m := nI_clamp (by omega)
    refine pk_le m1 m1 (fun _ => ⟨pk_in m 24 (by omega), nm_e ?_⟩) (fun z => absurd z (by omega))
    rw [em]
    exact H b hb
  · intro k i b hi1 hb hw
    obtain ⟨f1, f2, f3⟩ := hF i hi1
    have ei : (nI i).toNatClampNeg = i := nI_clamp (by omega)
    have ii : vp_in (nI i) 24 := vp_in_nI (by omega) (by omega)
    refine pk_le m1 i (fun z => absurd z (by omega)) (fun _ => ?_)
    have ix : vp_in (nI (25 * m + δ (F i))) 600 := vp_in_nI (by omega) (by omega)
    have ex : (nI (25 * m + δ (F i))).toNatClampNeg = 25 * m + δ (F i) := nI_clamp (by omega)
    rw [ei, f3, tw_25, nI_add, ex]
    refine ⟨ii, ii, ix, ix, nm_e (nm_r (nI_1 i) (hw (upd b (25 * m + δ (F i)) (b (25 * m + δ (F i)) + 1)) (tw_rw_s hb f1 (fun t ht z => ?_) f2)))⟩
    have := hi t i (by omega) hi1 z
    omega
/-- the queue as it grows by the neighbours of m -/
def tw_qg (p dp : Nat → Nat) (m i q q' : Nat) (F s o s' o' : Nat → Nat) : Prop :=
  q ≤ q' ∧ (∀ j, j < q → s' j = s j ∧ o' j = o j) ∧ (∀ j, q ≤ j → j < q' → (∃ t, t < i ∧ s' j = F t ∧ tw_d p dp m (F t) = 1) ∧ o' j = m) ∧ (∀ j k, q ≤ j → j < q' → q ≤ k → k < q' → s' j = s' k → j = k) ∧ (∀ t, t < i → tw_d p dp m (F t) = 1 → ∃ j, q ≤ j ∧ j < q' ∧ s' j = F t)
theorem tw_qg_no {p dp : Nat → Nat} {m i q q' : Nat} {F s o s' o' : Nat → Nat} (h : tw_qg p dp m i q q' F s o s' o') (hd : tw_d p dp m (F i) ≠ 1) : tw_qg p dp m (i + 1) q q' F s o s' o' := by
  obtain ⟨a, b, c, d, e⟩ := h
  refine ⟨a, b, fun j j1 j2 => ?_, d, fun t ht h1 => ?_⟩
  · obtain ⟨⟨t, t1, t2⟩, c2⟩ := c j j1 j2
    exact ⟨⟨t, by omega, t2⟩, c2⟩
  · by_cases q : t = i
    · rw [q] at h1
      exact absurd h1 hd
    · exact e t (by omega) h1
theorem tw_qg_add {p dp : Nat → Nat} {m i q q' : Nat} {F s o s' o' : Nat → Nat} (h : tw_qg p dp m i q q' F s o s' o') (hd : tw_d p dp m (F i) = 1) (hF : ∀ t, t < i → F t ≠ F i) : tw_qg p dp m (i + 1) q (q' + 1) F s o (tw_u s' q' (F i)) (tw_u o' q' m) := by
  obtain ⟨a, b, c, d, e⟩ := h
  have new : ∀ j, q ≤ j → j < q' → s' j ≠ F i := fun j j1 j2 z => by
    obtain ⟨⟨t, t1, t2, _⟩, _⟩ := c j j1 j2
    exact hF t t1 (t2.symm.trans z)
  refine ⟨by omega, fun j hj => ?_, fun j j1 j2 => ?_, fun j k j1 j2 k1 k2 z => ?_, fun t ht h1 => ?_⟩
  · rw [tw_un (by omega), tw_un (by omega)]
    exact b j hj
  · by_cases y : j = q'
    · rw [y, tw_us, tw_us]
      exact ⟨⟨i, by omega, rfl, hd⟩, rfl⟩
    · rw [tw_un y, tw_un y]
      obtain ⟨⟨t, t1, t2⟩, c2⟩ := c j j1 (by omega)
      exact ⟨⟨t, by omega, t2⟩, c2⟩
  · by_cases y : j = q'
    · by_cases x : k = q'
      · omega
      · rw [y, tw_us, tw_un x] at z
        exact absurd z.symm (new k k1 (by omega))
    · by_cases x : k = q'
      · rw [x, tw_us, tw_un y] at z
        exact absurd z (new j j1 (by omega))
      · rw [tw_un y, tw_un x] at z
        exact d j k j1 (by omega) k1 (by omega) z
  · by_cases y : t = i
    · exact ⟨q', a, by omega, by rw [tw_us, y]⟩
    · obtain ⟨j, j1, j2, j3⟩ := e t (by omega) h1
      exact ⟨j, j1, by omega, by rw [tw_un (by omega)]; exact j3⟩
theorem tw_pp199 {post : St1 → Prop} {J : Int32 → Int32 → Int32 → Int32 → Int32 → Int32 → (Nat → Int32) → (Nat → Int32) → (Nat → Int32) → (Nat → Int32) → (Nat → Int32) → (Nat → Int32) → (Nat → Int32) → (Nat → Int32) → (Nat → Int32) → (Nat → Int32) → (Nat → Int32) → (Nat → Int32) → (Nat → Int32) → (Nat → Int32) → (Nat → Int32) → (Nat → Int32) → (Nat → Int32) → (Nat → Int32) → (Nat → Int32) → (Nat → Int32) → (Nat → Int32) → (Nat → Int32) → (Nat → Int32) → (Nat → Int32) → (Nat → Int32) →  Prop} {c l rs rm : Int32} {a1 a2 a3 a4 a5 a6 a7 a8 a9 a10 a11 a12 a13 a14 a15 a16 a17 a18 a19 a20 a21 a22 a23 a24 a25 : Nat → Int32} {n g q m m1 : Nat} {p dp F s o M rk : Nat → Nat} {X : Nat → Prop} {C : Nat → Nat → Prop} (T : tw_T n p dp) (hpq : tw_pq n p dp X g q s o M rk C) (hg : g < q) (hm : tw_pc n p dp X (s g) m) (hl : tw_ls n p dp X m m1 F) (hF : ∀ j, j < m1 → a20 j = nI (F j) ∧ a22 j = nI (tw_d p dp m (F j)))
    (h24 : ∀ j, j < q → a24 j = nI (s j)) (h25 : ∀ j, 0 < j → j < q → a25 j = nI (o j)) (h250 : a25 0 = -1)
    (H : ∀ q' e f s' o', tw_qg p dp m m1 q q' F s o s' o' → (∀ j, j < q' → e j = nI (s' j)) → (∀ j, 0 < j → j < q' → f j = nI (o' j)) → f 0 = -1 → J (nI q') (nI (g + 1)) c l rs rm a1 a2 a3 a4 a5 a6 a7 a8 a9 a10 a11 a12 a13 a14 a15 a16 a17 a18 a19 a20 a21 a22 a23 e f) : ∃ fu, wX_partPieces_199 post J (nI g) (nI m1) (nI m) c l rs rm fu (nI q) 0 a1 a2 a3 a4 a5 a6 a7 a8 a9 a10 a11 a12 a13 a14 a15 a16 a17 a18 a19 a20 a21 a22 a23 a24 a25 := by
  have hn := T.2.1
  have hm1 := hl.2.1
  refine pk_loop (σ := Nat × (Nat → Int32) × (Nat → Int32)) (fun k i t => wX_partPieces_199 post J (nI g) (nI m1) (nI m) c l rs rm k (nI t.1) (nI i) a1 a2 a3 a4 a5 a6 a7 a8 a9 a10 a11 a12 a13 a14 a15 a16 a17 a18 a19 a20 a21 a22 a23 t.2.1 t.2.2) (fun i t => ∃ s' o', tw_qg p dp m i q t.1 F s o s' o' ∧ (∀ j, j < t.1 → t.2.1 j = nI (s' j)) ∧ (∀ j, 0 < j → j < t.1 → t.2.2 j = nI (o' j)) ∧ t.2.2 0 = -1) m1 0 (q, a24, a25) (by omega) ?_ ?_ ?_
  · refine ⟨s, o, ⟨Nat.le_refl q, fun _ _ => ⟨rfl, rfl⟩, fun j j1 j2 => absurd j2 (by dsimp only; omega), fun j k j1 j2 => absurd j2 (by dsimp only; omega), fun t ht => absurd ht (by omega)⟩, h24, h25, h250⟩
  · intro k ⟨q', e, f⟩ ⟨s', o', h1, h2, h3, h4⟩
    exact pk_le m1 m1 (fun _ => nm_r (nI_1 g) (H q' e f s' o' h1 h2 h3 h4)) (fun z => absurd z (by omega))
  · intro k i ⟨q', e, f⟩ hi ⟨s', o', h1, h2, h3, h4⟩ hw
    dsimp only at h1 h2 h3 h4 hw ⊢
    have ei : (nI i).toNatClampNeg = i := nI_clamp (by omega)
    have ii : vp_in (nI i) 24 := vp_in_nI (by omega) (by omega)
    have hFi := hl.2.2.1 i hi
    have hdb := tw_d_lt T hm.1 hFi.1
    refine pk_le m1 i (fun z => absurd z (by omega)) (fun _ => ?_)
    rw [ei, (hF i hi).1, (hF i hi).2]
    refine ⟨ii, ?_⟩
    refine pk_eq (tw_d p dp m (F i)) 1 (fun z => ?_) (fun z => nm_r (nI_1 i) (hw (q', e, f) ⟨s', o', tw_qg_no h1 z, h2, h3, h4⟩))
    have add := tw_qg_add h1 z (fun t ht y => by have := hl.2.2.2.1 t i (by omega) hi y; omega)
    have bnd := tw_pq_n T hpq hg hm add.1 (fun j hj => (add.2.1 j hj).1) (fun j j1 j2 => by
      obtain ⟨⟨t, t1, t2, t3⟩, _⟩ := add.2.2.1 j j1 j2
      rw [t2]
      exact ⟨hl.2.2.1 t (by omega), t3⟩) add.2.2.2.1
    have eq : (nI q').toNatClampNeg = q' := nI_clamp (by omega)
    have iq : vp_in (nI q') 24 := vp_in_nI (by omega) (by omega)
    have hq1 := h1.1
    rw [eq]
    refine ⟨ii, iq, nm_e ⟨iq, nm_e (nm_r (nI_1 q') (nm_r (nI_1 i) (hw (q' + 1, upd e q' (nI (F i)), upd f q' (nI m)) ⟨_, _, add, fun j hj => ?_, fun j j0 hj => ?_, ?_⟩)))⟩⟩
    · dsimp only at hj ⊢
      by_cases y : j = q'
      · rw [y, pk_us, tw_us]
      · rw [pk_un y, tw_un y]
        exact h2 j (by omega)
    · dsimp only at hj ⊢
      by_cases y : j = q'
      · rw [y, pk_us, tw_us]
      · rw [pk_un y, tw_un y]
        exact h3 j j0 (by omega)
    · dsimp only
      rw [pk_un (by omega)]
      exact h4
end
section
def tw_pi (n : Nat) (p dp : Nat → Nat) (g q : Nat) (a16 a17 a18 a19 a24 a25 : Nat → Int32) : Prop :=
  ∃ (X : Nat → Prop) (s o M rk : Nat → Nat) (C : Nat → Nat → Prop), tw_pq n p dp X g q s o M rk C ∧ tw_X n X a16 ∧ (∀ j, j < q → a24 j = nI (s j)) ∧ (∀ j, 0 < j → j < q → a25 j = nI (o j)) ∧ a25 0 = -1 ∧ (∀ j, j < g → tw_PF n p dp X C rk a17 a18 a19 (M j)) ∧ (∀ x, x < n → ¬ X x → ∀ k, k < 25 → a18 (25 * x + k) = 0 ∧ a19 (25 * x + k) = 0)
theorem tw_pi_0 {n : Nat} {p dp : Nat → Nat} (T : tw_T n p dp) {a16 a17 a18 a19 a24 a25 : Nat → Int32} (h16 : tw_X n (fun _ => False) a16) (hz : ∀ k, k < 600 → a18 k = 0 ∧ a19 k = 0) (h24 : a24 0 = 0) (h25 : a25 0 = -1) : tw_pi n p dp 0 1 a16 a17 a18 a19 a24 a25 := by
  have hn := T.2.1
  refine ⟨fun _ => False, fun _ => 0, fun _ => 0, fun _ => 0, fun _ => 0, fun _ _ => False, ⟨fun j _ => T.1, fun j z => absurd z (by omega), fun x => ⟨fun z => z.elim, fun ⟨j, z, _⟩ => absurd z (by omega)⟩, by omega, fun j _ _ z => z, fun j k _ j2 _ k2 hne => absurd hne (by omega), fun u hu _ => ⟨0, by omega, by omega, hu, fun x _ z => z.elim⟩, fun j _ j2 j0 => absurd j2 (by omega)⟩, h16, fun j hj => ?_, fun j j0 hj => absurd hj (by omega), h25, fun j z => absurd z (by omega), fun x hx _ k hk => hz _ (by omega)⟩
  rw [show j = 0 by omega, h24]
  rfl
theorem tw_pi_e {n : Nat} {p dp : Nat → Nat} (T : tw_T n p dp) {g q : Nat} {a16 a17 a18 a19 a24 a25 : Nat → Int32} (h : tw_pi n p dp g q a16 a17 a18 a19 a24 a25) (hg : g ≤ 24) (hq : q ≤ g ∨ g = 24) : tw_Ce n p dp a17 a18 a19 := by
  obtain ⟨X, s, o, M, rk, C, h1, h2, h3, h4, h5, h6, h7⟩ := h
  have hn := T.2.1
  have hq : q ≤ g := by
    rcases hq with z | z
    · exact z
    · rcases Nat.lt_or_ge g q with y | y
      · have hs := h1.1 g y
        have := tw_pq_n (s' := s) T h1 y (tw_pc_self T hs (h1.2.2.2.2.1 g (by omega) y)) (Nat.le_refl q) (fun _ _ => rfl) (fun j j1 j2 => absurd j2 (by omega)) (fun j k j1 j2 => absurd j2 (by omega))
        omega
      · exact y
  refine ⟨C, rk, fun m hm => ?_⟩
  have hX : X m := by
    by_cases z : X m
    · exact z
    · obtain ⟨j, j1, j2, _⟩ := h1.2.2.2.2.2.2.1 m hm z
      omega
  obtain ⟨j, j1, j2⟩ := (h1.2.2.1 m).mp hX
  have := (h1.2.1 j j1).2
  have pf := h6 j j1
  rw [j2] at this pf
  exact ⟨by omega, tw_PF_w pf⟩
theorem tw_partPieces {post : St1 → Prop} {c l rs rm : Int32} {a1 a2 a3 a4 a5 a6 a7 a8 a9 a10 a11 a12 a13 a14 a15 a16 a17 a18 a19 a20 a21 a22 a23 a24 a25 : Nat → Int32} {n : Nat} {p dp : Nat → Nat} (T : tw_T n p dp) (hc : c = nI n) (hP : tw_P n p a1) (hK : tw_K n p a2 a3)
    (H : ∀ b16 b17 b18 b19 b20 b21 b22 b23 b24 b25, tw_Ce n p dp b17 b18 b19 → post (c, l, rs, rm, a1, a2, a3, a4, a5, a6, a7, a8, a9, a10, a11, a12, a13, a14, a15, b16, b17, b18, b19, b20, b21, b22, b23, b24, b25)) : wpX_partPieces post (c, l, rs, rm, a1, a2, a3, a4, a5, a6, a7, a8, a9, a10, a11, a12, a13, a14, a15, a16, a17, a18, a19, a20, a21, a22, a23, a24, a25) := by
  have hn := T.2.1
  unfold wpX_partPieces
  refine tw_clearNear hc hn (fun e0 f0 g0 hX0 hz0 => nm_e (nm_e ?_))
  refine pk_loop (σ := Nat × (Nat → Int32) × (Nat → Int32) × (Nat → Int32) × (Nat → Int32) × (Nat → Int32) × (Nat → Int32) × (Nat → Int32) × (Nat → Int32) × (Nat → Int32) × (Nat → Int32)) (fun k i t => wX_partPieces_22 post k (nI t.1) (nI i) c l rs rm a1 a2 a3 a4 a5 a6 a7 a8 a9 a10 a11 a12 a13 a14 a15 t.2.1 t.2.2.1 t.2.2.2.1 t.2.2.2.2.1 t.2.2.2.2.2.1 t.2.2.2.2.2.2.1 t.2.2.2.2.2.2.2.1 t.2.2.2.2.2.2.2.2.1 t.2.2.2.2.2.2.2.2.2.1 t.2.2.2.2.2.2.2.2.2.2) (fun i t => tw_pi n p dp i t.1 (t.2.1) (t.2.2.1) (t.2.2.2.1) (t.2.2.2.2.1) (t.2.2.2.2.2.2.2.2.2.1) (t.2.2.2.2.2.2.2.2.2.2)) 24 0 (1, e0, a17, f0, g0, a20, a21, a22, a23, upd a24 0 0, upd a25 0 (-1)) (by omega) ?_ ?_ ?_
  · exact tw_pi_0 T hX0 hz0 (show upd a24 0 0 0 = 0 from pk_us) (show upd a25 0 (-1) 0 = -1 from pk_us)
  · intro k ⟨q, a16, a17, a18, a19, a20, a21, a22, a23, a24, a25⟩ hI
    have fin := H a16 a17 a18 a19 a20 a21 a22 a23 a24 a25 (tw_pi_e T hI (Nat.le_refl 24) (Or.inr rfl))
    refine br_c (fun _ => fin) (fun _ => ?_)
    exact pk_le 24 24 (fun _ => fin) (fun z => absurd z (by omega))
  · intro k g ⟨q, a16, a17, a18, a19, a20, a21, a22, a23, a24, a25⟩ hg hI hw
    dsimp only at hI hw ⊢
    have hqg : g < q ∨ q ≤ g := by omega
    rcases hqg with hgq | hgq
    · have hI' := hI
      obtain ⟨X, s, o, M, rk, C, h1, h2, h3, h4, h5, h6, h7⟩ := hI'
      have hsg := h1.1 g hgq
      have hXs := h1.2.2.2.2.1 g (Nat.le_refl g) hgq
      have hss := tw_pc_self T hsg hXs
      have hqn := tw_pq_n (s' := s) T h1 hgq hss (Nat.le_refl q) (fun _ _ => rfl) (fun j j1 j2 => absurd j2 (by omega)) (fun j k j1 j2 => absurd j2 (by omega))
      have eg : (nI g).toNatClampNeg = g := nI_clamp (by omega)
      have ig : vp_in (nI g) 24 := vp_in_nI (by omega) (by omega)
      refine pk_le q g (fun z => absurd z (by omega)) (fun _ => pk_le 24 g (fun z => absurd z (by omega)) (fun _ => ⟨ig, ?_⟩))
      rw [eg, h3 g hgq]
      refine tw_listPiece T hP hK h2 hsg hXs (fun m1 e1 f1 g1 F1 Fr1 l1 fm1 fr1 => ?_)
      have hm1 := l1.2.1
      refine tw_middleOf l1.1 (by omega) (fun j j0 hj => ⟨Fr1 j, by have := fr1 j j0 hj; omega, fm1.2.2 j j0 hj⟩) (fun b e23 hb => ?_)
      rw [(fm1.1 b hb).1]
      have hm := l1.2.2.1 b hb
      generalize hmb : F1 b = m at *
      have hmX := tw_pc_X T hm
      have em : (nI m).toNatClampNeg = m := nI_clamp (by have := hm.1; omega)
      have im : vp_in (nI m) 24 := vp_in_nI (by have := hm.1; omega) (by omega)
      have go : ∀ b19, (∀ j, j / 25 ≠ m → b19 j = a19 j) → (∀ X' C' rk' b18 m2 F2, (∀ x, X' x ↔ X x ∨ x = m) → (∀ x u, C' x u ↔ (x = m ∧ tw_pc n p dp X m u) ∨ (x ≠ m ∧ C x u)) → rk' = tw_u rk m g → tw_ls n p dp X m m2 F2 → tw_rw n m m2 F2 (tw_d p dp m) a18 b18 → tw_PF n p dp X' C' rk' (upd a17 m (a25 g)) b18 b19 m) →
          wX_partPieces_128 post (wX_partPieces_22 post k) (nI q) (nI g) (nI m) c l rs rm a1 a2 a3 a4 a5 a6 a7 a8 a9 a10 a11 a12 a13 a14 a15 a16 (upd a17 m (a25 g)) a18 b19 e1 f1 g1 e23 a24 a25 := by
        intro b19 hb19 hPF
        unfold wX_partPieces_128
        refine tw_listPiece T hP hK h2 hm.1 hmX (fun m2 e2 f2 g2 F2 Fr2 l2 fm2 _ => ?_)
        refine tw_pp138 (F := F2) (δ := tw_d p dp m) hn hm.1 l2.2.1 (fun j hj => ⟨(l2.2.2.1 j hj).1, by have := tw_d_lt T hm.1 (l2.2.2.1 j hj).1; omega, (fm2.1 j hj).2⟩) l2.2.2.2.1 (fun k hk => (h7 m hm.1 hmX k hk).1) (fun b18 hb18 => ?_)
        refine tw_pp199 (o := o) T h1 hgq hm l2 fm2.1 h3 h4 h5 (fun q' e24 f25 s' o' hqg h24 h25 h250 => ?_)
        refine hw (q', upd a16 m 1, upd a17 m (a25 g), b18, b19, e2, f2, g2, e23, e24, f25) ⟨fun x => X x ∨ x = m, s', o', tw_u M g m, tw_u rk m g, fun x u => (x = m ∧ tw_pc n p dp X m u) ∨ (x ≠ m ∧ C x u), ?_, ?_, h24, h25, h250, fun j hj => ?_, fun x hx hXx k hk => ?_⟩
        · refine tw_pq_s T h1 hgq hm hqg.1 hqg.2.1 (fun j j1 j2 => ?_) hqg.2.2.2.1 (fun t ht hd => ?_) (fun _ => Iff.rfl) rfl rfl (fun _ _ => Iff.rfl)
          · obtain ⟨⟨t, t1, t2, t3⟩, r⟩ := hqg.2.2.1 j j1 j2
            rw [t2]
            exact ⟨l2.2.2.1 t t1, t3, r⟩
          · obtain ⟨i, i1, i2⟩ := l2.2.2.2.2 t ht
            rw [← i2] at hd ⊢
            exact hqg.2.2.2.2 i i1 hd
        · intro x hx
          by_cases y : x = m
          · dsimp only
            rw [y, pk_us]
            exact ⟨fun _ => rfl, fun z => absurd (Or.inr rfl) z⟩
          · dsimp only
            rw [pk_un y]
            exact ⟨fun z => (h2 x hx).1 (z.elim id (fun w => absurd w y)), fun z => (h2 x hx).2 (fun w => z (Or.inl w))⟩
        · by_cases y : j = g
          · rw [y, tw_us]
            exact hPF _ _ _ b18 m2 F2 (fun _ => Iff.rfl) (fun _ _ => Iff.rfl) rfl l2 hb18
          · rw [tw_un y]
            have hXM : X (M j) := (h1.2.2.1 _).mpr ⟨j, by omega, rfl⟩
            have hne : M j ≠ m := fun z => hmX (z ▸ hXM)
            exact tw_PF_old (h6 j (by omega)) hmX hne (fun y z => Or.inl z) (fun _ _ => Iff.rfl) rfl (pk_un hne) hb18.1 hb19
        · have hne : x ≠ m := fun z => hXx (Or.inr z)
          have := h7 x hx (fun z => hXx (Or.inl z)) k hk
          dsimp only
          rw [hb18.1 _ (by omega), hb19 _ (by omega)]
          exact this
      rw [em]
      refine ⟨ig, im, nm_e ⟨im, ?_⟩⟩
      rw [pk_us]
      rcases Nat.eq_zero_or_pos g with z | z
      · refine br_t (by rw [z, h5]; exact tw_m1neg.2) (go a19 (fun _ _ => rfl) (fun X' C' rk' b18 m2 F2 x1 x2 x3 x4 x5 => ?_))
        refine tw_PF_top (X := X) T hm.1 (fun x hx => ?_) (fun u => ?_) ?_ x4 x5
        · obtain ⟨j, j1, _⟩ := (h1.2.2.1 x).mp hx
          omega
        · rw [x2]
          exact ⟨fun w => w.elim (fun y => y.2) (fun y => absurd rfl y.1), fun w => Or.inl ⟨rfl, w⟩⟩
        · rw [pk_us, z, h5]
      · obtain ⟨k1, k2, k3⟩ := h1.2.2.2.2.2.2.2 g (Nat.le_refl g) hgq z
        obtain ⟨r, r1, r2⟩ := (h1.2.2.1 _).mp k1
        have hro := h1.2.1 r r1
        have hpo := h6 r r1
        rw [r2] at hro hpo
        have e25 := h4 g z hgq
        refine br_f (by rw [e25]; exact nI_pos (by omega)) ?_
        refine tw_pp77 (n := n) (F := F1) (δ := tw_d p dp (o g)) hn hm.1 hm1 (fun j hj => ?_) l1.2.2.2.1 (fun k hk => (h7 m hm.1 hmX k hk).2) (fun b19 hb19 => go b19 hb19.1 (fun X' C' rk' b18 m2 F2 x1 x2 x3 x4 x5 => ?_))
        · have hj1 := l1.2.2.1 j hj
          have hj2 := (k2 _ hj1).2
          have hj3 := tw_d_lt T hro.1 hj1.1
          refine ⟨hj1.1, by omega, ?_⟩
          rw [(fm1.1 j hj).2, nI_1, hj2]
        · exact tw_PF_in T hsg hm k1 hro.1 (fun y w => (x1 y).mpr (Or.inl w)) x2 x3 (by omega) (by rw [pk_us, e25]) k2 k3 hpo.2.1 l1 hb19 x4 x5
    · have fin := H a16 a17 a18 a19 a20 a21 a22 a23 a24 a25 (tw_pi_e T hI (by omega) (Or.inl hgq))
      exact pk_le q g (fun _ => fin) (fun z => absurd z (by omega))
end
section
/-- what holds of the arrays once the tree is laid; V: the values of the nodes -/
def tw_LA (n : Nat) (p dp : Nat → Nat) (V : Nat → Int32) (a6 a7 a9 a10 a11 a13 a15 a17 a18 a19 : Nat → Int32) : Prop :=
  ∃ sz hd pl, tw_Z n p sz ∧ (∀ v, v < n → a6 v = nI (sz v)) ∧ (∀ v, v < n → a7 v = nI (dp v)) ∧ tw_H n p sz hd pl a9 a10 a11 ∧ (∀ j, 1 ≤ j → j < 32 → tw_J a13 a15 j) ∧ (∀ v, v < n → V v = tw_E a13 a15 (32 + pl v)) ∧ tw_Ce n p dp a17 a18 a19
/-- a laid state -/
def tw_L (n : Nat) (p dp : Nat → Nat) (V : Nat → Int32) (u : St1) : Prop := match u with
  | (c, l, rs, rm, a1, a2, a3, a4, a5, a6, a7, a8, a9, a10, a11, a12, a13, a14, a15, a16, a17, a18, a19, a20, a21, a22, a23, a24, a25) => tw_T n p dp ∧ c = nI n ∧ l = 1 ∧ tw_P n p a1 ∧ tw_LA n p dp V a6 a7 a9 a10 a11 a13 a15 a17 a18 a19
/-- any state -/
def tw_B (n : Nat) (p dp : Nat → Nat) (u : St1) : Prop := match u with
  | (c, l, rs, rm, a1, a2, a3, a4, a5, a6, a7, a8, a9, a10, a11, a12, a13, a14, a15, a16, a17, a18, a19, a20, a21, a22, a23, a24, a25) => tw_T n p dp ∧ c = nI n ∧ tw_P n p a1 ∧ (l = 0 ∨ ∃ V, tw_L n p dp V (c, l, rs, rm, a1, a2, a3, a4, a5, a6, a7, a8, a9, a10, a11, a12, a13, a14, a15, a16, a17, a18, a19, a20, a21, a22, a23, a24, a25))
theorem tw_L_B {n : Nat} {p dp : Nat → Nat} {V : Nat → Int32} {u : St1} (h : tw_L n p dp V u) : tw_B n p dp u := by
  obtain ⟨c, l, rs, rm, a1, a2, a3, a4, a5, a6, a7, a8, a9, a10, a11, a12, a13, a14, a15, a16, a17, a18, a19, a20, a21, a22, a23, a24, a25⟩ := u
  exact ⟨h.1, h.2.1, h.2.2.2.1, Or.inr ⟨V, h⟩⟩
theorem tw_lay_L {post : St1 → Prop} {n : Nat} {p dp : Nat → Nat} {V : Nat → Int32} {u : St1} (h : tw_L n p dp V u) (H : post u) : wpX_lay post u := by
  obtain ⟨c, l, rs, rm, a1, a2, a3, a4, a5, a6, a7, a8, a9, a10, a11, a12, a13, a14, a15, a16, a17, a18, a19, a20, a21, a22, a23, a24, a25⟩ := u
  unfold wpX_lay
  dsimp only
  rw [h.2.2.1]
  refine br_f (by decide) ?_
  have := h.2.2.1
  rw [this] at H
  exact H
theorem tw_lay {post : St1 → Prop} {n : Nat} {p dp : Nat → Nat} {u : St1} (h : tw_B n p dp u) (H : ∀ V u', tw_L n p dp V u' → post u') : wpX_lay post u := by
  obtain ⟨c, l, rs, rm, a1, a2, a3, a4, a5, a6, a7, a8, a9, a10, a11, a12, a13, a14, a15, a16, a17, a18, a19, a20, a21, a22, a23, a24, a25⟩ := u
  obtain ⟨T, hc, hP, hl⟩ := h
  rcases hl with hl | ⟨V, hl⟩
  · unfold wpX_lay
    dsimp only
    refine br_t hl ?_
    refine tw_linkChildren T hc hP (fun b2 b3 hK => ?_)
    refine tw_measure T hP hK (fun b5 b6 b7 b8 sz hZ h6 h7 h8 => ?_)
    refine tw_layRow T hK hZ h8 (fun b9 b10 b11 b12 hd pl hH => ?_)
    refine tw_fillRow hc T.2.1 (fun i hi => ?_) (fun b13 b14 b15 hJ => ?_)
    · obtain ⟨v, hv, e⟩ := hH.2.1 i hi
      have := (hH.1 v hv).2.2.2
      rw [e] at this
      exact ⟨v, by have := T.2.1; omega, this⟩
    · refine tw_partPieces T hc hP hK (fun b16 b17 b18 b19 b20 b21 b22 b23 b24 b25 hC => ?_)
      exact H (fun v => tw_E b13 b15 (32 + pl v)) _ ⟨T, hc, rfl, hP, sz, hd, pl, hZ, h6, h7, hH, hJ, fun _ _ => rfl, hC⟩
  · exact tw_lay_L hl (H V _ hl)
end
section
/-- what heads and places say, without arrays -/
def tw_hp (n : Nat) (p dp hd pl : Nat → Nat) : Prop := hd 0 = 0 ∧ (∀ u v, u < n → v < n → pl u = pl v → u = v) ∧ ∀ v, 0 < v → v < n → hd v = v ∨ (hd v = hd (p v) ∧ pl v = pl (p v) + 1)
theorem tw_H_hp {n : Nat} {p dp sz hd pl : Nat → Nat} (T : tw_T n p dp) {a9 a10 a11 : Nat → Int32} (h : tw_H n p sz hd pl a9 a10 a11) : tw_hp n p dp hd pl := by
  have hn := T.2.1
  refine ⟨h.2.2.1, fun u v hu hv e => ?_, fun v v0 hv => (h.2.2.2.2 v v0 hv).2.2⟩
  have a := (h.1 u hu).2.2.2
  rw [e, (h.1 v hv).2.2.2] at a
  exact ((nI_eq (by omega) (by omega)).mp a).symm
theorem tw_hd1 {n : Nat} {p dp hd pl : Nat → Nat} (T : tw_T n p dp) (h : tw_hp n p dp hd pl) : ∀ m v, dp v = m → v < n → hd v < n ∧ hd (hd v) = hd v ∧ dp (hd v) ≤ dp v ∧ tw_ak p dp v (dp (hd v)) = hd v := by
  intro m
  induction m with
  | zero =>
    intro v hv hvn
    have : v = 0 := by
      rcases Nat.eq_zero_or_pos v with z | z
      · exact z
      · have := tw_dp_pos T z hvn; omega
    rw [this, h.1]
    exact ⟨T.1, h.1, Nat.le_refl _, tw_ak_self p dp 0⟩
  | succ m ih =>
    intro v hv hvn
    have v0 : 0 < v := by
      rcases Nat.eq_zero_or_pos v with z | z
      · rw [z, T.2.2.1] at hv; omega
      · exact z
    rcases h.2.2 v v0 hvn with z | z
    · rw [z]
      exact ⟨hvn, z, Nat.le_refl _, tw_ak_self p dp v⟩
    · obtain ⟨q1, q2⟩ := T.2.2.2 v v0 hvn
      obtain ⟨i1, i2, i3, i4⟩ := ih (p v) (by omega) q1
      rw [z.1]
      refine ⟨i1, i2, by omega, ?_⟩
      rw [tw_ak_p T v0 hvn i3]
      exact i4
theorem tw_hd2 {n : Nat} {p dp hd pl : Nat → Nat} (T : tw_T n p dp) (h : tw_hp n p dp hd pl) : ∀ m v, dp v = m → v < n → ∀ k, dp (hd v) ≤ k → k ≤ dp v → hd (tw_ak p dp v k) = hd v ∧ pl (tw_ak p dp v k) + (dp v - k) = pl v := by
  intro m
  induction m with
  | zero =>
    intro v hv hvn k h1 h2
    rw [show k = dp v by omega, tw_ak_self]
    exact ⟨rfl, by omega⟩
  | succ m ih =>
    intro v hv hvn k h1 h2
    by_cases e : k = dp v
    · rw [e, tw_ak_self]
      exact ⟨rfl, by omega⟩
    · have v0 : 0 < v := by
        rcases Nat.eq_zero_or_pos v with z | z
        · rw [z, T.2.2.1] at hv; omega
        · exact z
      obtain ⟨q1, q2⟩ := T.2.2.2 v v0 hvn
      rcases h.2.2 v v0 hvn with z | z
      · rw [z] at h1
        omega
      · rw [z.1] at h1
        have i := ih (p v) (by omega) q1 k h1 (by omega)
        rw [tw_ak_p T v0 hvn (by omega), z.1]
        exact ⟨i.1, by omega⟩
/-- two nodes of one chain -/
theorem tw_hd3 {n : Nat} {p dp hd pl : Nat → Nat} (T : tw_T n p dp) (h : tw_hp n p dp hd pl) {a b : Nat} (ha : a < n) (hb : b < n) (e : hd a = hd b) (hd' : dp a ≤ dp b) : tw_ak p dp b (dp a) = a := by
  have a1 := tw_hd1 T h _ a rfl ha
  have b1 := tw_hd1 T h _ b rfl hb
  have a2 := tw_hd2 T h _ a rfl ha (dp (hd a)) (Nat.le_refl _) a1.2.2.1
  have b2 := tw_hd2 T h _ b rfl hb (dp (hd b)) (Nat.le_refl _) b1.2.2.1
  have b3 := tw_hd2 T h _ b rfl hb (dp a) (by rw [← e]; exact a1.2.2.1) hd'
  rw [a1.2.2.2] at a2
  rw [b1.2.2.2] at b2
  refine h.2.1 _ _ (tw_ak_lt T hb hd').1 ha ?_
  rw [e] at a2 a1
  omega
theorem tw_hd4 {n : Nat} {p dp hd pl : Nat → Nat} (T : tw_T n p dp) (h : tw_hp n p dp hd pl) {a b : Nat} (ha : a < n) (hb : b < n) (e : hd a ≠ hd b) (hd' : dp (hd b) ≤ dp (hd a)) : tw_l p dp a b < dp (hd a) ∧ 0 < hd a ∧ p (hd a) < n ∧ dp (p (hd a)) < dp a ∧ tw_f p dp (p (hd a)) b = tw_f p dp a b := by
  obtain ⟨a1, a2, a3, a4⟩ := tw_hd1 T h _ a rfl ha
  have lt : tw_l p dp a b < dp (hd a) := by
    rcases Nat.lt_or_ge (tw_l p dp a b) (dp (hd a)) with z | z
    · exact z
    · exfalso
      have q := (tw_l_iff T ha hb _).mp z
      have b3 := tw_hd2 T h _ b rfl hb (dp (hd a)) hd' q.2.1
      rw [← q.2.2, a4, a2] at b3
      exact e b3.1
  have h0 : 0 < hd a := by
    rcases Nat.eq_zero_or_pos (hd a) with z | z
    · rw [z, T.2.2.1] at lt; omega
    · exact z
  obtain ⟨q1, q2⟩ := T.2.2.2 _ h0 a1
  refine ⟨lt, h0, q1, by omega, ?_⟩
  have e1 : p (hd a) = tw_ak p dp a (dp (hd a) - 1) := by
    rw [← tw_ak_s T (show dp (hd a) - 1 + 1 ≤ dp a by omega), show dp (hd a) - 1 + 1 = dp (hd a) by omega, a4]
  rw [e1]
  exact tw_f_up T ha hb (by omega) (by omega)
theorem tw_f_top {n : Nat} {p dp : Nat → Nat} (T : tw_T n p dp) {a b : Nat} (ha : a < n) (hb : b < n) (h : tw_ak p dp a (dp b) = b) (hd' : dp b ≤ dp a) : tw_f p dp a b = b := by
  have : tw_l p dp a b = dp b := by
    have := tw_anc_l T ha hd'
    rw [h] at this
    exact this
  unfold tw_f
  rw [this, h]
theorem tw_along {post : Int32 → St1 → Prop} {c l rs rm : Int32} {a1 a2 a3 a4 a5 a6 a7 a8 a9 a10 a11 a12 a13 a14 a15 a16 a17 a18 a19 a20 a21 a22 a23 a24 a25 : Nat → Int32} {n u v : Nat} {p dp sz hd pl : Nat → Nat} {x3 x4 : Int32} (T : tw_T n p dp) (hP : tw_P n p a1) (h7 : ∀ v, v < n → a7 v = nI (dp v)) (hH : tw_H n p sz hd pl a9 a10 a11) (hu : u < n) (hv : v < n)
    (R : (Nat → Int32) → (Nat → Int32) → (Nat → Int32) → Prop) (hR : R a13 a14 a15)
    (hst : ∀ S M P a b (post : St1 → Prop), R S M P → a < 32 → b < 32 → (∀ S' M' P', R S' M' P' → post (c, l, rs, rm, a1, a2, a3, a4, a5, a6, a7, a8, a9, a10, a11, a12, S', M', P', a16, a17, a18, a19, a20, a21, a22, a23, a24, a25)) → wpX_stretch post (c, l, rs, rm, a1, a2, a3, a4, a5, a6, a7, a8, a9, a10, a11, a12, S, M, P, a16, a17, a18, a19, a20, a21, a22, a23, a24, a25) (nI a) (nI b) x3 x4)
    (H : ∀ S M P, R S M P → post (nI (tw_f p dp u v)) (c, l, rs, rm, a1, a2, a3, a4, a5, a6, a7, a8, a9, a10, a11, a12, S, M, P, a16, a17, a18, a19, a20, a21, a22, a23, a24, a25)) : wpX_alongWay post (c, l, rs, rm, a1, a2, a3, a4, a5, a6, a7, a8, a9, a10, a11, a12, a13, a14, a15, a16, a17, a18, a19, a20, a21, a22, a23, a24, a25) (nI u) (nI v) x3 x4 := by
  have hn := T.2.1
  have hp := tw_H_hp T hH
  unfold wpX_alongWay
  have end' : ∀ (top low : Nat) (S M P : Nat → Int32), top < n → low < n → R S M P → top = tw_f p dp u v → wX_alongWay_168 post x3 x4 (nI top) (nI low) c l rs rm a1 a2 a3 a4 a5 a6 a7 a8 a9 a10 a11 a12 S M P a16 a17 a18 a19 a20 a21 a22 a23 a24 a25 := by
    intro top low S M P h1 h2 h3 h4
    have et : (nI top).toNatClampNeg = top := nI_clamp (by omega)
    have el : (nI low).toNatClampNeg = low := nI_clamp (by omega)
    unfold wX_alongWay_168
    rw [et, el, (hH.1 top h1).2.1, (hH.1 low h2).2.1]
    refine ⟨vp_in_nI (by omega) (by omega), vp_in_nI (by omega) (by omega), hst S M P (pl top) (pl low) _ h3 (by have := (hH.1 top h1).2.2.1; omega) (by have := (hH.1 low h2).2.2.1; omega) (fun S' M' P' hR' => ?_)⟩
    rw [h4]
    exact H S' M' P' hR'
  have end2 : ∀ (a b : Nat) (S M P : Nat → Int32), a < n → b < n → R S M P → tw_f p dp a b = tw_f p dp u v → hd a = hd b → wX_alongWay_118 post x3 x4 (nI a) (nI b) c l rs rm a1 a2 a3 a4 a5 a6 a7 a8 a9 a10 a11 a12 S M P a16 a17 a18 a19 a20 a21 a22 a23 a24 a25 := by
    intro a b S M P ha hb hR' hf he
    have ea : (nI a).toNatClampNeg = a := nI_clamp (by omega)
    have eb : (nI b).toNatClampNeg = b := nI_clamp (by omega)
    have ia : vp_in (nI a) 24 := vp_in_nI (by omega) (by omega)
    have ib : vp_in (nI b) 24 := vp_in_nI (by omega) (by omega)
    have da := tw_dp_lt T ha
    have db := tw_dp_lt T hb
    unfold wX_alongWay_118
    unfold wX_alongWay_142
    rw [ea, eb, h7 a ha, h7 b hb]
    refine ⟨ia, ib, pk_le (dp b) (dp a) (fun z => ⟨ia, ib, br_t (nI_le z (by omega)) ?_⟩) (fun z => ⟨ia, ib, br_f (nI_ge z (by omega)) ?_⟩)⟩
    · refine end' b a S M P hb ha hR' ?_
      rw [← hf, tw_f_top T ha hb (tw_hd3 T hp hb ha he.symm z) z]
    · refine end' a b S M P ha hb hR' ?_
      rw [← hf, tw_f_comm T ha hb, tw_f_top T hb ha (tw_hd3 T hp ha hb he (by omega)) (by omega)]
  refine pk_loop (σ := Nat × Nat × (Nat → Int32) × (Nat → Int32) × (Nat → Int32)) (fun k i s => wX_alongWay_9 post x3 x4 k (nI s.1) (nI s.2.1) (nI i) c l rs rm a1 a2 a3 a4 a5 a6 a7 a8 a9 a10 a11 a12 s.2.2.1 s.2.2.2.1 s.2.2.2.2 a16 a17 a18 a19 a20 a21 a22 a23 a24 a25) (fun i s => s.1 < n ∧ s.2.1 < n ∧ i + dp s.1 + dp s.2.1 ≤ 46 ∧ tw_f p dp s.1 s.2.1 = tw_f p dp u v ∧ R s.2.2.1 s.2.2.2.1 s.2.2.2.2) 48 0 (u, v, a13, a14, a15) (by omega) ?_ ?_ ?_
  · have := tw_dp_lt T hu
    have := tw_dp_lt T hv
    exact ⟨hu, hv, by dsimp only; omega, rfl, hR⟩
  · intro k ⟨a, b, S, M, P⟩ ⟨_, _, h, _⟩
    omega
  · intro k i ⟨a, b, S, M, P⟩ hi ⟨ha, hb, hs, hf, hR'⟩ hw
    dsimp only at ha hb hs hf hR' hw ⊢
    have ea : (nI a).toNatClampNeg = a := nI_clamp (by omega)
    have eb : (nI b).toNatClampNeg = b := nI_clamp (by omega)
    have ia : vp_in (nI a) 24 := vp_in_nI (by omega) (by omega)
    have ib : vp_in (nI b) 24 := vp_in_nI (by omega) (by omega)
    have ka1 := tw_hd1 T hp _ a rfl ha
    have kb1 := tw_hd1 T hp _ b rfl hb
    have eha : (nI (hd a)).toNatClampNeg = hd a := nI_clamp (by omega)
    have ehb : (nI (hd b)).toNatClampNeg = hd b := nI_clamp (by omega)
    have iha : vp_in (nI (hd a)) 24 := vp_in_nI (by omega) (by omega)
    have ihb : vp_in (nI (hd b)) 24 := vp_in_nI (by omega) (by omega)
    have dha := tw_dp_lt T ka1.1
    have dhb := tw_dp_lt T kb1.1
    have go : ∀ (a b : Nat), a < n → b < n → hd a ≠ hd b → dp (hd b) ≤ dp (hd a) → i + dp a + dp b ≤ 46 → tw_f p dp a b = tw_f p dp u v → wX_alongWay_72 post (wX_alongWay_9 post x3 x4 k) x3 x4 (nI a) (nI b) (nI i) c l rs rm a1 a2 a3 a4 a5 a6 a7 a8 a9 a10 a11 a12 S M P a16 a17 a18 a19 a20 a21 a22 a23 a24 a25 := by
      intro a b ha hb hne hle hs hf
      obtain ⟨q1, q2, q3, q4, q5⟩ := tw_hd4 T hp ha hb hne hle
      have ka1 := tw_hd1 T hp _ a rfl ha
      have ea : (nI a).toNatClampNeg = a := nI_clamp (by omega)
      have ia : vp_in (nI a) 24 := vp_in_nI (by omega) (by omega)
      have eha : (nI (hd a)).toNatClampNeg = hd a := nI_clamp (by omega)
      have iha : vp_in (nI (hd a)) 24 := vp_in_nI (by omega) (by omega)
      unfold wX_alongWay_72
      rw [ea, (hH.1 a ha).1, eha, (hH.1 a ha).2.1, (hH.1 _ ka1.1).2.1]
      refine ⟨ia, iha, ia, hst S M P (pl (hd a)) (pl a) _ hR' (by have := (hH.1 _ ka1.1).2.2.1; omega) (by have := (hH.1 a ha).2.2.1; omega) (fun S' M' P' hR2 => ?_)⟩
      dsimp only
      rw [(hH.1 a ha).1, eha]
      exact ⟨ia, iha, nm_r (hP (hd a) q2 ka1.1) (nm_r (nI_1 i) (hw (p (hd a), b, S', M', P') ⟨q3, hb, by dsimp only; omega, by dsimp only; rw [q5]; exact hf, hR2⟩))⟩
    refine pk_le 48 i (fun z => absurd z (by omega)) (fun _ => ?_)
    rw [ea, eb, (hH.1 a ha).1, (hH.1 b hb).1, eha, ehb, h7 _ ka1.1, h7 _ kb1.1]
    refine ⟨ia, ib, pk_eq (hd a) (hd b) (fun z => end2 a b S M P ha hb hR' hf z) (fun z => ⟨ia, iha, ib, ihb, ?_⟩)⟩
    exact pk_le (dp (hd b)) (dp (hd a)) (fun y => go a b ha hb z y hs hf) (fun y => go b a hb ha (fun w => z w.symm) (by omega) (by omega) (by rw [tw_f_comm T hb ha]; exact hf))
theorem tw_stretch0 {post : St1 → Prop} {u : St1} {a b x : Int32} (H : post u) : wpX_stretch post u a b 0 x := by
  obtain ⟨c, l, rs, rm, a1, a2, a3, a4, a5, a6, a7, a8, a9, a10, a11, a12, a13, a14, a15, a16, a17, a18, a19, a20, a21, a22, a23, a24, a25⟩ := u
  unfold wpX_stretch
  exact br_f (by decide) (br_f (by decide) H)
theorem tw_stretch2 {post : St1 → Prop} {c l rs rm : Int32} {a1 a2 a3 a4 a5 a6 a7 a8 a9 a10 a11 a12 a13 a14 a15 a16 a17 a18 a19 a20 a21 a22 a23 a24 a25 : Nat → Int32} {a b : Nat} {x : Int32} (ha : a < 32) (hb : b < 32) (hJ : ∀ j, 1 ≤ j → j < 32 → tw_J a13 a15 j) (H : ∀ S M P, (∀ j, 1 ≤ j → j < 32 → tw_J S P j) → post (c, l, rs, rm, a1, a2, a3, a4, a5, a6, a7, a8, a9, a10, a11, a12, S, M, P, a16, a17, a18, a19, a20, a21, a22, a23, a24, a25)) : wpX_stretch post (c, l, rs, rm, a1, a2, a3, a4, a5, a6, a7, a8, a9, a10, a11, a12, a13, a14, a15, a16, a17, a18, a19, a20, a21, a22, a23, a24, a25) (nI a) (nI b) 2 x := by
  unfold wpX_stretch
  exact br_f (by decide) (br_t rfl (tw_addRow ha hb hJ H))
theorem tw_along0 {post : Int32 → St1 → Prop} {n a b : Nat} {p dp : Nat → Nat} {V : Nat → Int32} {u : St1} (h : tw_L n p dp V u) (ha : a < n) (hb : b < n) (H : post (nI (tw_f p dp a b)) u) : wpX_alongWay post u (nI a) (nI b) 0 0 := by
  obtain ⟨c, l, rs, rm, a1, a2, a3, a4, a5, a6, a7, a8, a9, a10, a11, a12, a13, a14, a15, a16, a17, a18, a19, a20, a21, a22, a23, a24, a25⟩ := u
  obtain ⟨T, hc, hl, hP, sz, hd, pl, hZ, h6, h7, hH, hJ, hV, hC⟩ := h
  refine tw_along T hP h7 hH ha hb (fun S M P => S = a13 ∧ M = a14 ∧ P = a15) ⟨rfl, rfl, rfl⟩ (fun S M P x y post' hR _ _ H' => tw_stretch0 (H' S M P hR)) (fun S M P hR => ?_)
  rw [hR.1, hR.2.1, hR.2.2]
  exact H
/-- addWay's walk -/
theorem tw_along2 {post : Int32 → St1 → Prop} {n a b : Nat} {p dp : Nat → Nat} {V : Nat → Int32} {u : St1} {x : Int32} (h : tw_L n p dp V u) (ha : a < n) (hb : b < n) (H : ∀ V' u', tw_L n p dp V' u' → post (nI (tw_f p dp a b)) u') : wpX_alongWay post u (nI a) (nI b) 2 x := by
  obtain ⟨c, l, rs, rm, a1, a2, a3, a4, a5, a6, a7, a8, a9, a10, a11, a12, a13, a14, a15, a16, a17, a18, a19, a20, a21, a22, a23, a24, a25⟩ := u
  obtain ⟨T, hc, hl, hP, sz, hd, pl, hZ, h6, h7, hH, hJ, hV, hC⟩ := h
  refine tw_along T hP h7 hH ha hb (fun S M P => ∀ j, 1 ≤ j → j < 32 → tw_J S P j) hJ (fun S M P x y post' hR hx hy H' => tw_stretch2 hx hy hR H') (fun S M P hR => ?_)
  exact H (fun v => tw_E S P (32 + pl v)) _ ⟨T, hc, hl, hP, sz, hd, pl, hZ, h6, h7, hH, hR, fun _ _ => rfl, hC⟩
theorem tw_above {post : Int32 → Prop} {n v k : Nat} {p dp : Nat → Nat} {V : Nat → Int32} {u : St1} (h : tw_L n p dp V u) (hv : v < n) (hk : k ≤ dp v) (H : post (nI (tw_ak p dp v (dp v - k)))) : wpX_above post u (nI v) (nI k) := by
  obtain ⟨c, l, rs, rm, a1, a2, a3, a4, a5, a6, a7, a8, a9, a10, a11, a12, a13, a14, a15, a16, a17, a18, a19, a20, a21, a22, a23, a24, a25⟩ := u
  obtain ⟨T, hc, hl, hP, sz, hd, pl, hZ, h6, h7, hH, hJ, hV, hC⟩ := h
  have hn := T.2.1
  have hp := tw_H_hp T hH
  unfold wpX_above
  refine pk_loop (σ := Nat × Nat) (fun q i s => wX_above_8 post c l rs rm a1 a2 a3 a4 a5 a6 a7 a8 a9 a10 a11 a12 a13 a14 a15 a16 a17 a18 a19 a20 a21 a22 a23 a24 a25 q (nI s.1) (nI s.2) (nI i)) (fun i s => s.1 < n ∧ s.2 ≤ dp s.1 ∧ i + dp s.1 ≤ 23 ∧ tw_ak p dp s.1 (dp s.1 - s.2) = tw_ak p dp v (dp v - k)) 24 0 (v, k) (by omega) ?_ ?_ ?_
  · have := tw_dp_lt T hv
    exact ⟨hv, hk, by dsimp only; omega, rfl⟩
  · intro q ⟨a, t⟩ ⟨_, _, h, _⟩
    dsimp only at h
    omega
  · intro q i ⟨a, t⟩ hi ⟨ha, ht, hs, hf⟩ hw
    dsimp only at ha ht hs hf hw ⊢
    obtain ⟨ka1, ka2, ka3, ka4⟩ := tw_hd1 T hp _ a rfl ha
    have ea : (nI a).toNatClampNeg = a := nI_clamp (by omega)
    have ia : vp_in (nI a) 24 := vp_in_nI (by omega) (by omega)
    have eha : (nI (hd a)).toNatClampNeg = hd a := nI_clamp (by omega)
    have iha : vp_in (nI (hd a)) 24 := vp_in_nI (by omega) (by omega)
    refine pk_le 24 i (fun z => absurd z (by omega)) (fun _ => ?_)
    rw [ea, (hH.1 a ha).1, eha, h7 a ha, h7 _ ka1, pk_sub ka3]
    refine ⟨ia, ia, iha, pk_le t (dp a - dp (hd a)) (fun z => ?_) (fun z => ⟨ia, ia, iha, ?_⟩)⟩
    · obtain ⟨c1, c2⟩ := tw_hd2 T hp _ a rfl ha (dp a - t) (by omega) (by omega)
      have hy := (tw_ak_lt T ha (show dp a - t ≤ dp a by omega)).1
      have hpl := (hH.1 _ hy).2.2
      have e2 : nI (pl a) - nI t = nI (pl (tw_ak p dp a (dp a - t))) := by
        rw [pk_sub (by omega)]
        congr 1
        omega
      unfold wX_above_81
      rw [ea, (hH.1 a ha).2.1, e2, nI_clamp (show pl (tw_ak p dp a (dp a - t)) < 2 ^ 31 by omega), hpl.2]
      refine ⟨ia, vp_in_nI (by omega) (by omega), ?_⟩
      rw [hf]
      exact H
    · have h0 : 0 < hd a := by
        rcases Nat.eq_zero_or_pos (hd a) with y | y
        · rw [y, T.2.2.1] at z; omega
        · exact y
      obtain ⟨q1, q2⟩ := T.2.2.2 _ h0 ka1
      have e1 : p (hd a) = tw_ak p dp a (dp (hd a) - 1) := by
        rw [← tw_ak_s T (show dp (hd a) - 1 + 1 ≤ dp a by omega), show dp (hd a) - 1 + 1 = dp (hd a) by omega, ka4]
      refine nm_r (e' := nI (t - (dp a - dp (hd a)) - 1)) (by rw [pk_sub (by omega)]; exact pk_sub (b := 1) (by omega)) ⟨ia, iha, nm_r (hP _ h0 ka1) (nm_r (nI_1 i) (hw (p (hd a), t - (dp a - dp (hd a)) - 1) ⟨q1, by dsimp only; omega, by dsimp only; omega, ?_⟩))⟩
      dsimp only
      rw [← hf, show dp (p (hd a)) - (t - (dp a - dp (hd a)) - 1) = dp a - t by omega, e1]
      exact tw_ak_ak T ha (by omega) (by omega)
end
section
theorem tw_bad {post : Int32 → Prop} {n v : Nat} {p dp : Nat → Nat} {u : St1} (h : tw_B n p dp u) (hv : v < n) (H : post 0) : wpX_bad post u (nI v) := by
  obtain ⟨c, l, rs, rm, a1, a2, a3, a4, a5, a6, a7, a8, a9, a10, a11, a12, a13, a14, a15, a16, a17, a18, a19, a20, a21, a22, a23, a24, a25⟩ := u
  obtain ⟨T, hc, _⟩ := h
  have hn := T.2.1
  unfold wpX_bad
  dsimp only
  rw [hc]
  exact br_f (nI_pos (by omega)) (br_t (nI_lt hv (by omega)) H)
theorem tw_apart {post : Int32 → St1 → Prop} {n a b : Nat} {p dp : Nat → Nat} {V : Nat → Int32} {u : St1} (h : tw_L n p dp V u) (ha : a < n) (hb : b < n) (H : post (nI (tw_d p dp a b)) u) : wpX_apart post u (nI a) (nI b) := by
  obtain ⟨c, l, rs, rm, a1, a2, a3, a4, a5, a6, a7, a8, a9, a10, a11, a12, a13, a14, a15, a16, a17, a18, a19, a20, a21, a22, a23, a24, a25⟩ := u
  have h' := h
  obtain ⟨T, hc, hl, hP, sz, hd, pl, hZ, h6, h7, hH, hJ, hV, hC⟩ := h'
  have hn := T.2.1
  unfold wpX_apart
  refine tw_along0 h ha hb ?_
  dsimp only
  obtain ⟨f1, f2⟩ := tw_f_dp T ha hb
  have hl1 := tw_l_le T ha hb
  rw [nI_clamp (show a < 2 ^ 31 by omega), nI_clamp (show b < 2 ^ 31 by omega), nI_clamp (show tw_f p dp a b < 2 ^ 31 by omega), h7 a ha, h7 b hb, h7 _ f1, f2, nI_add, tw_2m, pk_sub (by omega)]
  exact ⟨vp_in_nI (by omega) (by omega), vp_in_nI (by omega) (by omega), vp_in_nI (by omega) (by omega), H⟩
theorem tw_upTo {post : Int32 → Prop} {c l rs rm : Int32} {a1 a2 a3 a4 a5 a6 a7 a8 a9 a10 a11 a12 a13 a14 a15 a16 a17 a18 a19 a20 a21 a22 a23 a24 a25 : Nat → Int32} {n m d e : Nat} {x y : Int32} {C : Nat → Prop} {δ : Nat → Nat} (hm : m < 24) (hδ : ∀ u, C u → δ u < 25) (hd : d < 2 ^ 31) (hx : (e ≤ d ∧ x = nI (d - e)) ∨ (d < e ∧ x < 0))
    (hr : (y = 0 ∧ ∀ k, k < 25 → a18 (25 * m + k) = nI (tw_n (fun u => C u ∧ δ u = k) n)) ∨ (y = 1 ∧ ∀ k, k < 25 → a19 (25 * m + k) = nI (tw_n (fun u => C u ∧ δ u = k) n)))
    (H : post (nI (tw_n (fun u => C u ∧ e + δ u ≤ d) n))) : wpX_upTo post (c, l, rs, rm, a1, a2, a3, a4, a5, a6, a7, a8, a9, a10, a11, a12, a13, a14, a15, a16, a17, a18, a19, a20, a21, a22, a23, a24, a25) (nI m) x y := by
  unfold wpX_upTo
  rcases hx with ⟨hed, hx⟩ | ⟨hed, hx⟩
  · subst hx
    have fin : ∀ i (s : Int32), s = nI (tw_n (fun u => C u ∧ δ u < i) n) → (i = d - e + 1 ∨ (25 ≤ i ∧ i ≤ d - e + 1)) → post s := by
      intro i s h1 h2
      have : tw_n (fun u => C u ∧ δ u < i) n = tw_n (fun u => C u ∧ e + δ u ≤ d) n := by
        refine tw_n_c n (fun u _ => ⟨fun z => ⟨z.1, ?_⟩, fun z => ⟨z.1, ?_⟩⟩)
        · have := hδ u z.1
          have := z.2
          omega
        · have := hδ u z.1
          have := z.2
          omega
      rw [h1, this]
      exact H
    refine pk_loop (σ := Int32) (fun k i s => wX_upTo_6 post (nI m) (nI (d - e)) y c l rs rm a1 a2 a3 a4 a5 a6 a7 a8 a9 a10 a11 a12 a13 a14 a15 a16 a17 a18 a19 a20 a21 a22 a23 a24 a25 k s (nI i)) (fun i s => i ≤ d - e + 1 ∧ s = nI (tw_n (fun u => C u ∧ δ u < i) n)) 25 0 0 (by omega) ⟨by omega, ?_⟩ ?_ ?_
    · rw [tw_n_no n]
      · rfl
      · intro j _ z
        have := z.2
        omega
    · intro k s ⟨h1, h2⟩
      refine pk_lt (d - e) 25 (fun z => fin 25 s h2 (by omega)) (fun z => pk_le 25 25 (fun _ => fin 25 s h2 (by omega)) (fun w => absurd w (by omega)))
    · intro k i s hi ⟨h1, h2⟩ hw
      have ix : vp_in (nI (25 * m + i)) 600 := vp_in_nI (by omega) (by omega)
      have ex : (nI (25 * m + i)).toNatClampNeg = 25 * m + i := nI_clamp (by omega)
      refine pk_lt (d - e) i (fun z => fin i s h2 (by omega)) (fun z => pk_le 25 i (fun w => absurd w (by omega)) (fun _ => ?_))
      have nx : ∀ z : Int32, z = nI (tw_n (fun u => C u ∧ δ u = i) n) → wX_upTo_6 post (nI m) (nI (d - e)) y c l rs rm a1 a2 a3 a4 a5 a6 a7 a8 a9 a10 a11 a12 a13 a14 a15 a16 a17 a18 a19 a20 a21 a22 a23 a24 a25 k (s + z) (nI (i + 1)) := by
        intro z hz
        refine hw (s + z) ⟨by omega, ?_⟩
        rw [hz, h2, nI_add, tw_n_lt]
      rw [tw_25, nI_add, ex]
      rcases hr with ⟨r1, r2⟩ | ⟨r1, r2⟩
      · exact br_t r1 ⟨ix, nm_e (nm_r (nI_1 i) (nx _ (r2 i hi)))⟩
      · refine br_f (by rw [r1]; decide) ⟨ix, nm_e (nm_r (nI_1 i) (nx _ (r2 i hi)))⟩
  · refine ⟨1, ?_⟩
    refine br_t hx ?_
    have : tw_n (fun u => C u ∧ e + δ u ≤ d) n = 0 := tw_n_no n (fun u _ z => by have := z.2; omega)
    rw [this] at H
    exact H
theorem tw_nearBy {post : Int32 → St1 → Prop} {n v d : Nat} {p dp : Nat → Nat} {V : Nat → Int32} {u : St1} (h : tw_L n p dp V u) (hv : v < n) (hd : d < 2 ^ 30) (H : post (nI (tw_n (fun w => tw_d p dp v w ≤ d) n)) u) : wpX_nearBy post u (nI v) (nI d) := by
  obtain ⟨c, l, rs, rm, a1, a2, a3, a4, a5, a6, a7, a8, a9, a10, a11, a12, a13, a14, a15, a16, a17, a18, a19, a20, a21, a22, a23, a24, a25⟩ := u
  have h' := h
  obtain ⟨T, hc, hl, hP, sz, hd', pl, hZ, h6, h7, hH, hJ, hV, C, rk, hC⟩ := h'
  have hn := T.2.1
  unfold wpX_nearBy
  obtain ⟨r0, c1, c2, c3, c4⟩ := hC v hv
  have dl : ∀ a, a < n → ∀ m, m < n → ∀ w, C m w → tw_d p dp a w < 25 := fun a ha m hm w hw => by
    have := tw_d_lt T ha ((hC m hm).2.2.1 w hw)
    omega
  refine tw_upTo (n := n) (C := C v) (δ := tw_d p dp v) (d := d) (e := 0) (by omega) (fun w hw => dl v hv v hv w hw) (by omega) (Or.inl ⟨by omega, rfl⟩) (Or.inl ⟨rfl, c3⟩) ?_
  refine pk_loop (σ := Int32 × Nat) (fun k i s => wX_nearBy_14 post (nI v) (nI d) k s.1 (nI s.2) (nI i) c l rs rm a1 a2 a3 a4 a5 a6 a7 a8 a9 a10 a11 a12 a13 a14 a15 a16 a17 a18 a19 a20 a21 a22 a23 a24 a25) (fun i s => s.2 < n ∧ C s.2 v ∧ i + rk s.2 ≤ 23 ∧ s.1 = nI (tw_n (fun w => C s.2 w ∧ tw_d p dp v w ≤ d) n)) 24 0 (_, v) (by omega) ⟨hv, c1, by dsimp only; omega, ?_⟩ ?_ ?_
  · dsimp only
    refine congrArg nI (tw_n_c n (fun w _ => ?_))
    rw [Nat.zero_add]
  · intro k ⟨s, a⟩ ⟨_, _, z, _⟩
    dsimp only at z
    omega
  · intro k i ⟨s, a⟩ hi ⟨ha, hav, hr, hs⟩ hw
    dsimp only at ha hav hr hs hw ⊢
    have ea : (nI a).toNatClampNeg = a := nI_clamp (by omega)
    have ia : vp_in (nI a) 24 := vp_in_nI (by omega) (by omega)
    obtain ⟨q0, q1, q2, q3, q4⟩ := hC a ha
    refine pk_le 24 i (fun z => absurd z (by omega)) (fun _ => ⟨ia, ?_⟩)
    rw [ea]
    rcases q4 with ⟨e1, e2⟩ | ⟨o, o1, _, o3, o4, o5, o6, o7⟩
    · rw [e1]
      refine br_t tw_m1neg.2 ?_
      have : s = nI (tw_n (fun w => tw_d p dp v w ≤ d) n) := by
        rw [hs]
        exact congrArg nI (tw_n_c n (fun w hw => ⟨fun z => z.2, fun z => ⟨e2 w hw, z⟩⟩))
      rw [this]
      exact H
    · rw [o3]
      refine br_f (nI_pos (by omega)) ⟨ia, nm_e ?_⟩
      refine tw_apart h hv o1 (nm_e ?_)
      have hvo := tw_d_lt T hv o1
      have hx : (tw_d p dp v o ≤ d ∧ nI d - nI (tw_d p dp v o) = nI (d - tw_d p dp v o)) ∨ (d < tw_d p dp v o ∧ nI d - nI (tw_d p dp v o) < 0) := by
        rcases Nat.lt_or_ge d (tw_d p dp v o) with z | z
        · exact Or.inr ⟨z, pk_sneg (by omega) z⟩
        · exact Or.inl ⟨z, pk_sub z⟩
      obtain ⟨_, _, _, p3, _⟩ := hC o o1
      refine tw_upTo (n := n) (C := C o) (δ := tw_d p dp o) (by omega) (fun w hw => dl o o1 o o1 w hw) (by omega) hx (Or.inl ⟨rfl, p3⟩) ?_
      refine tw_upTo (n := n) (C := C a) (δ := tw_d p dp o) (by omega) (fun w hw => dl o o1 a ha w hw) (by omega) hx (Or.inr ⟨rfl, o7⟩) ?_
      refine nm_e (nm_r (nI_1 i) (hw (_, o) ⟨o1, o5 v hav, by dsimp only; omega, ?_⟩))
      dsimp only
      have n1 : tw_n (fun w => C o w ∧ tw_d p dp v w ≤ d) n = tw_n (fun w => C a w ∧ tw_d p dp v w ≤ d) n + tw_n (fun w => (C o w ∧ ¬ C a w) ∧ tw_d p dp v w ≤ d) n := by
        refine tw_n_or n (fun w _ => ⟨fun z => ?_, fun z => ?_⟩) (fun w _ z => z.2.1.2 z.1.1)
        · by_cases y : C a w
          · exact Or.inl ⟨y, z.2⟩
          · exact Or.inr ⟨⟨z.1, y⟩, z.2⟩
        · rcases z with z | z
          · exact ⟨o5 w z.1, z.2⟩
          · exact ⟨z.1.1, z.2⟩
      have n2 : tw_n (fun w => C o w ∧ tw_d p dp v o + tw_d p dp o w ≤ d) n = tw_n (fun w => C a w ∧ tw_d p dp v o + tw_d p dp o w ≤ d) n + tw_n (fun w => (C o w ∧ ¬ C a w) ∧ tw_d p dp v w ≤ d) n := by
        have bt : ∀ w, C o w → ¬ C a w → tw_d p dp v o + tw_d p dp o w = tw_d p dp v w := fun w h1 h2 => o6 w v h1 h2 hav
        refine tw_n_or n (fun w _ => ⟨fun z => ?_, fun z => ?_⟩) (fun w _ z => z.2.1.2 z.1.1)
        · by_cases y : C a w
          · exact Or.inl ⟨y, z.2⟩
          · exact Or.inr ⟨⟨z.1, y⟩, by rw [← bt w z.1 y]; exact z.2⟩
        · rcases z with z | z
          · exact ⟨o5 w z.1, z.2⟩
          · exact ⟨z.1.1, by rw [bt w z.1.1 z.1.2]; exact z.2⟩
      rw [hs, nI_add, pk_sub (by omega)]
      congr 1
      omega
theorem tw_farFrom {post : Int32 → St1 → Prop} {n v : Nat} {p dp : Nat → Nat} {V : Nat → Int32} {u : St1} (h : tw_L n p dp V u) (hv : v < n) (H : post (nI (tw_t (fun w => tw_d p dp v w) n)) u) : wpX_farFrom post u (nI v) := by
  obtain ⟨c, l, rs, rm, a1, a2, a3, a4, a5, a6, a7, a8, a9, a10, a11, a12, a13, a14, a15, a16, a17, a18, a19, a20, a21, a22, a23, a24, a25⟩ := u
  have T := h.1
  have hn := T.2.1
  unfold wpX_farFrom
  refine pk_loop (σ := Int32 × Int32) (fun k i s => wX_farFrom_7 post (nI v) k s.1 s.2 (nI i) c l rs rm a1 a2 a3 a4 a5 a6 a7 a8 a9 a10 a11 a12 a13 a14 a15 a16 a17 a18 a19 a20 a21 a22 a23 a24 a25) (fun i s => s.1 = nI (tw_t (fun w => if tw_d p dp v w < i then tw_d p dp v w else 0) n) ∧ s.2 = nI (tw_n (fun w => tw_d p dp v w < i) n)) 24 0 (0, 0) (by omega) ?_ ?_ ?_
  · dsimp only
    rw [tw_t_0 n, tw_n_no n]
    · exact ⟨rfl, rfl⟩
    · intro w _
      omega
    · intro w _
      rw [if_neg (by omega)]
  · intro k ⟨s, b⟩ ⟨h1, _⟩
    dsimp only at h1 ⊢
    refine pk_le 24 24 (fun _ => ?_) (fun z => absurd z (by omega))
    have : tw_t (fun w => if tw_d p dp v w < 24 then tw_d p dp v w else 0) n = tw_t (fun w => tw_d p dp v w) n := tw_t_c n (fun w hw => by
      have := tw_d_lt T hv hw
      rw [if_pos (by omega)])
    rw [h1, this]
    exact H
  · intro k i ⟨s, b⟩ hi ⟨h1, h2⟩ hw
    dsimp only at h1 h2 hw ⊢
    refine pk_le 24 i (fun z => absurd z (by omega)) (fun _ => ?_)
    refine tw_nearBy h hv (by omega) (nm_e (nm_r (nI_1 i) (hw (_, _) ⟨?_, ?_⟩)))
    · dsimp only
      have e1 : tw_n (fun w => tw_d p dp v w ≤ i) n = tw_n (fun w => tw_d p dp v w < i) n + tw_n (fun w => tw_d p dp v w = i) n :=
        tw_n_or n (fun w _ => by omega) (fun w _ => by omega)
      rw [tw_t_far, h1, h2, e1, pk_sub (by omega), pk_mul, nI_add]
      congr 2
      rw [Nat.add_sub_cancel_left]
    · dsimp only
      exact congrArg nI (tw_n_c n (fun w _ => by omega))
end
section
theorem tw_widest {post : Int32 → St1 → Prop} {n : Nat} {p dp : Nat → Nat} {V : Nat → Int32} {u : St1} (h : tw_L n p dp V u) (H : ∀ b, b < 24 → (∀ x y, x < n → y < n → tw_d p dp x y ≤ b) → (b = 0 ∨ ∃ x y, x < n ∧ y < n ∧ tw_d p dp x y = b) → post (nI b) u) : wpX_widest post u := by
  obtain ⟨c, l, rs, rm, a1, a2, a3, a4, a5, a6, a7, a8, a9, a10, a11, a12, a13, a14, a15, a16, a17, a18, a19, a20, a21, a22, a23, a24, a25⟩ := u
  have h' := h
  obtain ⟨T, hc, hl, hP, sz, hd, pl, hZ, h6, h7, hH, hJ, hV, hC⟩ := h'
  have hn := T.2.1
  have hn0 := T.1
  unfold wpX_widest
  refine tw_lay_L h ?_
  refine pk_loop (σ := Nat) (fun k i s => wX_widest_8 post c l rs rm a1 a2 a3 a4 a5 a6 a7 a8 a9 a10 a11 a12 a13 a14 a15 a16 a17 a18 a19 a20 a21 a22 a23 a24 a25 k (nI s) (nI i)) (fun i s => s < n ∧ ∀ v, v < i → dp v ≤ dp s) n 0 0 (by omega) ⟨hn0, fun v z => absurd z (by omega)⟩ ?_ ?_
  · intro k f ⟨hf, hm⟩
    rw [hc]
    refine pk_le n n (fun _ => ?_) (fun z => absurd z (by omega))
    refine pk_loop (σ := Nat) (fun k i s => wX_widest_47 post (nI f) k (nI s) (nI i) (nI n) l rs rm a1 a2 a3 a4 a5 a6 a7 a8 a9 a10 a11 a12 a13 a14 a15 a16 a17 a18 a19 a20 a21 a22 a23 a24 a25) (fun i s => s < 24 ∧ (∀ w, w < i → tw_d p dp f w ≤ s) ∧ (s = 0 ∨ ∃ w, w < n ∧ tw_d p dp f w = s)) n 0 0 (by omega) ⟨by omega, fun w z => absurd z (by omega), Or.inl rfl⟩ ?_ ?_
    · intro k b ⟨hb, h1, h2⟩
      refine pk_le n n (fun _ => ?_) (fun z => absurd z (by omega))
      rw [hc] at H
      refine H b hb (fun x y hx hy => ?_) ?_
      · have := h1 x hx
        have := h1 y hy
        rcases tw_wide T hf hx hy hm with z | z
        · omega
        · omega
      · rcases h2 with z | ⟨w, w1, w2⟩
        · exact Or.inl z
        · exact Or.inr ⟨f, w, hf, w1, w2⟩
    · intro k i b hi ⟨hb, h1, h2⟩ hw
      rw [hc] at h
      have hd := tw_d_lt T hf hi
      refine pk_le n i (fun z => absurd z (by omega)) (fun _ => ?_)
      refine tw_apart h hf hi ?_
      refine pk_le (tw_d p dp f i) b (fun z => nm_r (nI_1 i) (hw b ⟨hb, fun w hwi => ?_, h2⟩)) (fun z => nm_r (nI_1 i) (hw (tw_d p dp f i) ⟨by omega, fun w hwi => ?_, Or.inr ⟨i, hi, rfl⟩⟩))
      · by_cases y : w = i
        · rw [y]; exact z
        · exact h1 w (by omega)
      · by_cases y : w = i
        · rw [y]; exact Nat.le_refl _
        · have := h1 w (by omega)
          omega
  · intro k i f hi ⟨hf, hm⟩ hw
    have ei : (nI i).toNatClampNeg = i := nI_clamp (by omega)
    have ef : (nI f).toNatClampNeg = f := nI_clamp (by omega)
    have di := tw_dp_lt T hi
    have df := tw_dp_lt T hf
    have hgoal : ∀ X : Prop, X → X := fun _ x => x
    refine pk_le (y := nI i) n i (fun z => absurd z (by omega)) (fun _ => ⟨pk_in i 24 (by omega), pk_in f 24 (by omega), ?_⟩) hc
    rw [ei, ef, h7 i hi, h7 f hf]
    refine pk_le (dp i) (dp f) (fun z => nm_r (nI_1 i) (hw f ⟨hf, fun v hv => ?_⟩)) (fun z => nm_r (nI_1 i) (hw i ⟨hi, fun v hv => ?_⟩))
    · by_cases y : v = i
      · rw [y]; exact z
      · exact hm v (by omega)
    · by_cases y : v = i
      · rw [y]; exact Nat.le_refl _
      · have := hm v (by omega)
        omega
theorem tw_value_L {post : Int32 → St1 → Prop} {n v : Nat} {p dp : Nat → Nat} {V : Nat → Int32} {u : St1} (h : tw_L n p dp V u) (hv : v < n) (H : ∀ u', tw_L n p dp V u' → post (V v) u') : wpX_value post u (nI v) := by
  have hB := tw_L_B h
  obtain ⟨c, l, rs, rm, a1, a2, a3, a4, a5, a6, a7, a8, a9, a10, a11, a12, a13, a14, a15, a16, a17, a18, a19, a20, a21, a22, a23, a24, a25⟩ := u
  have h' := h
  obtain ⟨T, hc, hl, hP, sz, hd, pl, hZ, h6, h7, hH, hJ, hV, hC⟩ := h'
  have hn := T.2.1
  unfold wpX_value
  refine tw_bad hB hv (br_t rfl ?_)
  refine tw_lay_L h ⟨vp_in_nI (by omega) (by omega), ?_⟩
  have hpl := (hH.1 v hv).2.2.1
  rw [nI_clamp (show v < 2 ^ 31 by omega), (hH.1 v hv).2.1]
  refine tw_passDown (Y := fun _ => False) (by omega) (fun _ _ z => z.elim) (fun _ z => z.elim) hJ (fun S M P k1 k2 k3 _ => ?_)
  dsimp only
  rw [(hH.1 v hv).2.1, tw_32, nI_clamp (show 32 + pl v < 2 ^ 31 by omega)]
  refine ⟨vp_in_nI (by omega) (by omega), vp_in_nI (by omega) (by omega), ?_⟩
  have e1 : S (32 + pl v) = V v := by
    have hq : tw_Q P (32 + pl v) = 0 := tw_Q_z (tw_pa_cl (by omega)) k3 _ _ (Nat.lt_succ_self _) (by omega) (Or.inr ⟨1, by omega, by omega, rfl⟩)
    rw [hV v hv, ← k2 _ (by omega)]
    unfold tw_E
    rw [hq]
    grind
  rw [e1]
  exact H _ ⟨T, hc, hl, hP, sz, hd, pl, hZ, h6, h7, hH, k1, fun w hw => by rw [hV w hw, k2 _ (by have := (hH.1 w hw).2.2.1; omega)], hC⟩
theorem tw_value {post : Int32 → St1 → Prop} {n v : Nat} {p dp : Nat → Nat} {u : St1} (h : tw_B n p dp u) (hv : v < n) (H : ∀ V u', tw_L n p dp V u' → post (V v) u') : wpX_value post u (nI v) := by
  have h0 := h
  obtain ⟨c, l, rs, rm, a1, a2, a3, a4, a5, a6, a7, a8, a9, a10, a11, a12, a13, a14, a15, a16, a17, a18, a19, a20, a21, a22, a23, a24, a25⟩ := u
  unfold wpX_value
  refine tw_bad h hv (br_t rfl ?_)
  refine tw_lay h (fun V u' h' => ?_)
  have q := tw_value_L (post := post) h' hv (fun u2 h2 => H V u2 h2)
  obtain ⟨c, l, rs, rm, a1, a2, a3, a4, a5, a6, a7, a8, a9, a10, a11, a12, a13, a14, a15, a16, a17, a18, a19, a20, a21, a22, a23, a24, a25⟩ := u'
  unfold wpX_value at q
  have e := h'.2.1
  have hn := h'.1.2.1
  unfold wpX_bad at q
  dsimp only at q
  rw [e] at q
  have q2 := ((q.2 (nI_pos (by omega))).1 (nI_lt hv (by omega))).1 rfl
  unfold wpX_lay at q2
  dsimp only at q2
  have q3 := q2.2 (by rw [h'.2.2.1]; decide)
  rw [← e] at q3
  exact q3
theorem tw_distance {post : Int32 → St1 → Prop} {n a b : Nat} {p dp : Nat → Nat} {V : Nat → Int32} {u : St1} (h : tw_L n p dp V u) (ha : a < n) (hb : b < n) (H : post (nI (tw_d p dp a b)) u) : wpX_distance post u (nI a) (nI b) := by
  have hB := tw_L_B h
  obtain ⟨c, l, rs, rm, a1, a2, a3, a4, a5, a6, a7, a8, a9, a10, a11, a12, a13, a14, a15, a16, a17, a18, a19, a20, a21, a22, a23, a24, a25⟩ := u
  unfold wpX_distance
  refine tw_bad hB ha (br_t rfl (tw_bad hB hb (br_t rfl ?_)))
  refine tw_lay_L h ?_
  exact tw_apart h ha hb H
theorem tw_fork {post : Int32 → St1 → Prop} {n a b : Nat} {p dp : Nat → Nat} {V : Nat → Int32} {u : St1} (h : tw_L n p dp V u) (ha : a < n) (hb : b < n) (H : post (nI (tw_f p dp a b)) u) : wpX_fork post u (nI a) (nI b) := by
  have hB := tw_L_B h
  obtain ⟨c, l, rs, rm, a1, a2, a3, a4, a5, a6, a7, a8, a9, a10, a11, a12, a13, a14, a15, a16, a17, a18, a19, a20, a21, a22, a23, a24, a25⟩ := u
  unfold wpX_fork
  refine tw_bad hB ha (br_t rfl (tw_bad hB hb (br_t rfl ?_)))
  refine tw_lay_L h ?_
  exact tw_along0 h ha hb H
theorem tw_depth {post : Int32 → St1 → Prop} {n a : Nat} {p dp : Nat → Nat} {V : Nat → Int32} {u : St1} (h : tw_L n p dp V u) (ha : a < n) (H : post (nI (dp a)) u) : wpX_depth post u (nI a) := by
  have hB := tw_L_B h
  obtain ⟨c, l, rs, rm, a1, a2, a3, a4, a5, a6, a7, a8, a9, a10, a11, a12, a13, a14, a15, a16, a17, a18, a19, a20, a21, a22, a23, a24, a25⟩ := u
  have h' := h
  obtain ⟨T, hc, hl, hP, sz, hd, pl, hZ, h6, h7, hH, hJ, hV, hC⟩ := h'
  have hn := T.2.1
  unfold wpX_depth
  refine tw_bad hB ha (br_t rfl ?_)
  refine tw_lay_L h ⟨vp_in_nI (by omega) (by omega), ?_⟩
  rw [nI_clamp (show a < 2 ^ 31 by omega), h7 a ha]
  exact H
theorem tw_wayNode {post : Int32 → St1 → Prop} {n a b k : Nat} {p dp : Nat → Nat} {V : Nat → Int32} {u : St1} (h : tw_L n p dp V u) (ha : a < n) (hb : b < n) (hk : k < 2 ^ 30)
    (H1 : k ≤ dp a - tw_l p dp a b → post (nI (tw_ak p dp a (dp a - k))) u) (H2 : dp a - tw_l p dp a b < k → k ≤ tw_d p dp a b → post (nI (tw_ak p dp b (dp b - (tw_d p dp a b - k)))) u) (H3 : tw_d p dp a b < k → post (-3000000) u) : wpX_wayNode post u (nI a) (nI b) (nI k) := by
  have hB := tw_L_B h
  obtain ⟨c, l, rs, rm, a1, a2, a3, a4, a5, a6, a7, a8, a9, a10, a11, a12, a13, a14, a15, a16, a17, a18, a19, a20, a21, a22, a23, a24, a25⟩ := u
  have h' := h
  obtain ⟨T, hc, hl, hP, sz, hd, pl, hZ, h6, h7, hH, hJ, hV, hC⟩ := h'
  have hn := T.2.1
  obtain ⟨f1, f2⟩ := tw_f_dp T ha hb
  have hl1 := tw_l_le T ha hb
  have hda := tw_dp_lt T ha
  have hdb := tw_dp_lt T hb
  have hdd : tw_d p dp a b = dp a - tw_l p dp a b + dp b - tw_l p dp a b := by unfold tw_d; omega
  unfold wpX_wayNode
  refine tw_bad hB ha (br_t rfl (tw_bad hB hb (br_t rfl ?_)))
  refine tw_lay_L h ?_
  refine tw_along0 h ha hb ?_
  dsimp only
  rw [nI_clamp (show a < 2 ^ 31 by omega), nI_clamp (show b < 2 ^ 31 by omega), nI_clamp (show tw_f p dp a b < 2 ^ 31 by omega), h7 a ha, h7 b hb, h7 _ f1, f2]
  refine ⟨vp_in_nI (by omega) (by omega), vp_in_nI (by omega) (by omega), nm_r (pk_sub hl1.1) ⟨vp_in_nI (by omega) (by omega), vp_in_nI (by omega) (by omega), nm_r (e' := nI (tw_d p dp a b)) (by rw [nI_add, pk_sub (by omega), hdd]) ?_⟩⟩
  refine br_f (nI_pos (by omega)) ?_
  refine pk_le k (tw_d p dp a b) (fun z => ?_) (fun z => H3 z)
  refine pk_lt (dp a - tw_l p dp a b) k (fun y => ?_) (fun y => ?_)
  · rw [pk_sub z]
    exact tw_above h hb (by omega) (H2 y z)
  · exact tw_above h ha (by omega) (H1 y)
theorem tw_way0 {post : Int32 → St1 → Prop} {n a b : Nat} {p dp : Nat → Nat} {V : Nat → Int32} {u : St1} (h : tw_L n p dp V u) (ha : a < n) (hb : b < n) (H : post (nI a) u) : wpX_wayNode post u (nI a) (nI b) 0 := by
  refine tw_wayNode (k := 0) h ha hb (by omega) (fun _ => ?_) (fun z => absurd z (by omega)) (fun z => absurd z (by omega))
  rw [Nat.sub_zero, tw_ak_self]
  exact H
theorem tw_way1 {post : Int32 → St1 → Prop} {n a b : Nat} {p dp : Nat → Nat} {V : Nat → Int32} {u : St1} (T : tw_T n p dp) (h : tw_L n p dp V u) (ha : a < n) (hb : b < n) (H : post (nI b) u) : wpX_wayNode post u (nI a) (nI b) (nI (tw_d p dp a b)) := by
  have hn := T.2.1
  have hl1 := tw_l_le T ha hb
  have hdd : tw_d p dp a b = dp a - tw_l p dp a b + dp b - tw_l p dp a b := by unfold tw_d; omega
  have := tw_d_lt T ha hb
  refine tw_wayNode h ha hb (by omega) (fun z => ?_) (fun _ _ => ?_) (fun z => absurd z (by omega))
  · have e : tw_l p dp a b = dp b := by omega
    have e2 := tw_l_anc T ha hb e
    rw [show dp a - tw_d p dp a b = dp b by omega, e2]
    exact H
  · rw [Nat.sub_self, Nat.sub_zero, tw_ak_self]
    exact H
theorem tw_way2 {post : Int32 → St1 → Prop} {n a b : Nat} {p dp : Nat → Nat} {V : Nat → Int32} {u : St1} (T : tw_T n p dp) (h : tw_L n p dp V u) (ha : a < n) (hb : b < n) (H : post (-3000000) u) : wpX_wayNode post u (nI a) (nI b) (nI (tw_d p dp a b) + 1) := by
  have hn := T.2.1
  have hl1 := tw_l_le T ha hb
  have hdd : tw_d p dp a b = dp a - tw_l p dp a b + dp b - tw_l p dp a b := by unfold tw_d; omega
  have := tw_d_lt T ha hb
  rw [nI_1]
  exact tw_wayNode h ha hb (by omega) (fun z => absurd z (by omega)) (fun _ z => absurd z (by omega)) (fun _ => H)
/-- what middle answers -/
def tw_mid (p dp : Nat → Nat) (a b d : Nat) : Int32 := (nI (tw_f p dp a b) ^^^ nI (tw_f p dp b d)) ^^^ nI (tw_f p dp a d)
theorem tw_middle {post : Int32 → St1 → Prop} {n a b d : Nat} {p dp : Nat → Nat} {V : Nat → Int32} {u : St1} (h : tw_L n p dp V u) (ha : a < n) (hb : b < n) (hd : d < n) (H : post (tw_mid p dp a b d) u) : wpX_middle post u (nI a) (nI b) (nI d) := by
  have hB := tw_L_B h
  obtain ⟨c, l, rs, rm, a1, a2, a3, a4, a5, a6, a7, a8, a9, a10, a11, a12, a13, a14, a15, a16, a17, a18, a19, a20, a21, a22, a23, a24, a25⟩ := u
  unfold wpX_middle
  refine tw_bad hB ha (br_t rfl (tw_bad hB hb (br_t rfl (tw_bad hB hd (br_t rfl ?_)))))
  refine tw_lay_L h ?_
  exact tw_along0 h ha hb (tw_along0 h hb hd (tw_along0 h ha hd H))
theorem tw_xor3 (x y z : Int32) : (x ^^^ y) ^^^ z = (x ^^^ z) ^^^ y ∧ (x ^^^ y) ^^^ z = (y ^^^ x) ^^^ z := by
  constructor
  · rw [Int32.xor_assoc, Int32.xor_comm y z, ← Int32.xor_assoc]
  · rw [Int32.xor_comm x y]
theorem tw_mid_1 {n a b d : Nat} {p dp : Nat → Nat} (T : tw_T n p dp) (ha : a < n) (hb : b < n) (hd : d < n) : tw_mid p dp a b d = tw_mid p dp b a d := by
  unfold tw_mid
  rw [tw_f_comm T hb ha]
  exact (tw_xor3 _ _ _).1
theorem tw_mid_2 {n a b d : Nat} {p dp : Nat → Nat} (T : tw_T n p dp) (ha : a < n) (hb : b < n) (hd : d < n) : tw_mid p dp a b d = tw_mid p dp a d b := by
  unfold tw_mid
  rw [tw_f_comm T hd hb]
  rw [(tw_xor3 (nI (tw_f p dp a d)) _ _).1, (tw_xor3 (nI (tw_f p dp a d)) _ _).2, (tw_xor3 (nI (tw_f p dp a b)) (nI (tw_f p dp a d)) _).1]
theorem tw_within {post : Int32 → St1 → Prop} {n v d : Nat} {p dp : Nat → Nat} {V : Nat → Int32} {u : St1} (h : tw_L n p dp V u) (hv : v < n) (hd : d ≤ 24) (H : post (nI (tw_n (fun w => tw_d p dp v w ≤ d) n)) u) : wpX_within post u (nI v) (nI d) := by
  have hB := tw_L_B h
  obtain ⟨c, l, rs, rm, a1, a2, a3, a4, a5, a6, a7, a8, a9, a10, a11, a12, a13, a14, a15, a16, a17, a18, a19, a20, a21, a22, a23, a24, a25⟩ := u
  unfold wpX_within
  refine tw_bad hB hv (br_t rfl ?_)
  refine tw_lay_L h ?_
  refine br_t (nI_pos' (by omega)) ?_
  unfold wX_within_37
  refine pk_le 24 d (fun z => ?_) (fun z => ?_)
  · refine tw_nearBy (d := 24) h hv (by omega) ?_
    rw [show d = 24 by omega] at H
    exact H
  · exact tw_nearBy h hv (by omega) H
theorem tw_within_m {post : Int32 → St1 → Prop} {n v : Nat} {x : Int32} {p dp : Nat → Nat} {V : Nat → Int32} {u : St1} (h : tw_L n p dp V u) (hv : v < n) (hx : ¬ 0 ≤ x) (H : post 0 u) : wpX_within post u (nI v) x := by
  have hB := tw_L_B h
  obtain ⟨c, l, rs, rm, a1, a2, a3, a4, a5, a6, a7, a8, a9, a10, a11, a12, a13, a14, a15, a16, a17, a18, a19, a20, a21, a22, a23, a24, a25⟩ := u
  unfold wpX_within
  refine tw_bad hB hv (br_t rfl ?_)
  refine tw_lay_L h ?_
  exact br_f hx H
theorem tw_farSum {post : Int32 → St1 → Prop} {n v : Nat} {p dp : Nat → Nat} {V : Nat → Int32} {u : St1} (h : tw_L n p dp V u) (hv : v < n) (H : post (nI (tw_t (fun w => tw_d p dp v w) n)) u) : wpX_farSum post u (nI v) := by
  have hB := tw_L_B h
  obtain ⟨c, l, rs, rm, a1, a2, a3, a4, a5, a6, a7, a8, a9, a10, a11, a12, a13, a14, a15, a16, a17, a18, a19, a20, a21, a22, a23, a24, a25⟩ := u
  unfold wpX_farSum
  refine tw_bad hB hv (br_t rfl ?_)
  refine tw_lay_L h ?_
  exact tw_farFrom h hv H
theorem tw_s_sh (f : Nat → Int32) (a : Nat) : ∀ m, tw_s f (a + m) - tw_s f a = tw_s (fun i => f (a + i)) m := by
  intro m
  induction m with
  | zero =>
    show tw_s f a - tw_s f a = 0
    grind
  | succ m ih =>
    show (tw_s f (a + m) + f (a + m)) - tw_s f a = tw_s (fun i => f (a + i)) m + f (a + m)
    rw [← ih]
    grind
theorem tw_partSum {post : Int32 → St1 → Prop} {n : Nat} {p dp : Nat → Nat} {V : Nat → Int32} {u : St1} (h : tw_L n p dp V u) (H : ∀ u', tw_L n p dp V u' → post (tw_s V n) u') : wpX_partSum post u 0 := by
  have hB := tw_L_B h
  obtain ⟨c, l, rs, rm, a1, a2, a3, a4, a5, a6, a7, a8, a9, a10, a11, a12, a13, a14, a15, a16, a17, a18, a19, a20, a21, a22, a23, a24, a25⟩ := u
  have h' := h
  obtain ⟨T, hc, hl, hP, sz, hd, pl, hZ, h6, h7, hH, hJ, hV, hC⟩ := h'
  have hn := T.2.1
  have hn0 := T.1
  unfold wpX_partSum
  refine tw_bad (v := 0) hB hn0 (br_t rfl ?_)
  unfold wpX_startAsking
  refine tw_lay_L h ?_
  dsimp only
  have i0 : vp_in (0 : Int32) 24 := vp_in_nI (n := 0) (by omega) (by omega)
  rw [show (0 : Int32).toNatClampNeg = 0 from rfl, (hH.1 0 hn0).2.1, hH.2.2.2.1, h6 0 hn0, hZ.1, nI_add, show nI (0 + n) - 1 = nI (n - 1) from by rw [Nat.zero_add]; exact pk_sub (b := 1) (by omega)]
  refine ⟨i0, i0, i0, ?_⟩
  refine tw_askRow (by omega) (by omega) (by omega) hJ (fun S M P rm' k1 k2 => ?_)
  dsimp only
  have e1 : (0 : Int32) + (tw_s (tw_E a13 a15) (32 + (n - 1) + 1) - tw_s (tw_E a13 a15) (32 + 0)) = tw_s V n := by
    rw [show 32 + (n - 1) + 1 = 32 + n by omega, Nat.add_zero, tw_s_sh, ← tw_s_perm (n := n) pl (fun i => tw_E a13 a15 (32 + i)) (fun v hv => (hH.1 v hv).2.2.1) (tw_H_hp T hH).2.1 hH.2.1]
    rw [tw_s_c (f := fun v => tw_E a13 a15 (32 + pl v)) (g := V) n (fun v hv => (hV v hv).symm)]
    grind
  rw [e1]
  exact H _ ⟨T, hc, hl, hP, sz, hd, pl, hZ, h6, h7, hH, k1, fun w hw => by rw [hV w hw, k2 _ (by have := (hH.1 w hw).2.2.1; omega)], hC⟩
end
section
/-- a state that is not laid -/
def tw_N (n : Nat) (p : Nat → Nat) (u : St1) : Prop := match u with
  | (c, l, rs, rm, a1, a2, a3, a4, a5, a6, a7, a8, a9, a10, a11, a12, a13, a14, a15, a16, a17, a18, a19, a20, a21, a22, a23, a24, a25) => c = nI n ∧ l = 0 ∧ tw_P n p a1
theorem tw_save {post : St1 → Prop} {n : Nat} {p dp : Nat → Nat} {u : St1} (h : tw_B n p dp u) (H : ∀ u', tw_N n p u' → post u') : wpX_save post u := by
  obtain ⟨c, l, rs, rm, a1, a2, a3, a4, a5, a6, a7, a8, a9, a10, a11, a12, a13, a14, a15, a16, a17, a18, a19, a20, a21, a22, a23, a24, a25⟩ := u
  unfold wpX_save
  refine tw_lay h (fun V u' h' => ?_)
  clear h
  obtain ⟨c, l, rs, rm, a1, a2, a3, a4, a5, a6, a7, a8, a9, a10, a11, a12, a13, a14, a15, a16, a17, a18, a19, a20, a21, a22, a23, a24, a25⟩ := u'
  obtain ⟨T, hc, hl, hP, sz, hd, pl, hZ, h6, h7, hH, hJ, hV, hC⟩ := h'
  have hn := T.2.1
  dsimp only
  refine pk_loop (σ := (Nat → Int32) × (Nat → Int32) × (Nat → Int32) × (Nat → Int32)) (fun k i s => wX_save_6 post k (nI i) c l rs rm a1 a2 a3 s.1 a5 a6 a7 a8 a9 a10 a11 a12 s.2.1 s.2.2.1 s.2.2.2 a16 a17 a18 a19 a20 a21 a22 a23 a24 a25) (fun i s => ∀ j, 1 ≤ j → j < 32 → tw_J s.2.1 s.2.2.2 j) n 0 (a4, a13, a14, a15) (by omega) hJ ?_ ?_
  · intro k ⟨f, S, M, P⟩ _
    exact pk_le n n (fun _ => H _ ⟨hc, rfl, hP⟩) (fun z => absurd z (by omega)) hc
  · intro k i ⟨f, S, M, P⟩ hi hI hw
    dsimp only at hI hw ⊢
    have hpl := (hH.1 i hi).2.2.1
    refine pk_le n i (fun z => absurd z (by omega)) (fun _ => ⟨pk_in i 24 (by omega), nm_r (e' := nI (pl i)) (by rw [nI_clamp (show i < 2 ^ 31 by omega)]; exact (hH.1 i hi).2.1) ?_⟩) hc
    refine tw_passDown (Y := fun _ => False) (by omega) (fun _ _ z => z.elim) (fun _ z => z.elim) hI (fun S M P k1 _ _ _ => ?_)
    dsimp only
    rw [tw_32]
    exact ⟨vp_in_nI (by omega) (by omega), pk_in i 24 (by omega), nm_e (nm_r (nI_1 i) (hw (_, S, M, P) k1))⟩
theorem tw_N_B {n : Nat} {p dp : Nat → Nat} {u : St1} (T : tw_T n p dp) (h : tw_N n p u) : tw_B n p dp u := by
  obtain ⟨c, l, rs, rm, a1, a2, a3, a4, a5, a6, a7, a8, a9, a10, a11, a12, a13, a14, a15, a16, a17, a18, a19, a20, a21, a22, a23, a24, a25⟩ := u
  exact ⟨T, h.1, h.2.2, Or.inl h.2.1⟩
theorem tw_T_grow {n q : Nat} {p dp : Nat → Nat} (T : tw_T n p dp) (hq : q < n) (hn : n < 24) : tw_T (n + 1) (tw_u p n q) (tw_u dp n (dp q + 1)) := by
  refine ⟨by omega, by omega, by rw [tw_un (by have := T.1; omega)]; exact T.2.2.1, fun v v0 hv => ?_⟩
  by_cases e : v = n
  · rw [e, tw_us, tw_us, tw_un (by omega)]
    exact ⟨by omega, rfl⟩
  · have := T.2.2.2 v v0 (by omega)
    rw [tw_un e, tw_un e, tw_un (by omega)]
    exact ⟨by omega, this.2⟩
theorem tw_grow {post : Int32 → St1 → Prop} {n q : Nat} {p dp : Nat → Nat} {u : St1} (h : tw_B n p dp u) (hq : q < n) (H : ∀ r n' p' dp' u', tw_B n' p' dp' u' → post r u') : wpX_grow post u (nI q) := by
  have hu := H (-2000000) n p dp u h
  have hb : ∀ P : Int32 → Prop, P 0 → wpX_bad P u (nI q) := fun P hP => tw_bad h hq hP
  have hs : ∀ P : St1 → Prop, (∀ u', tw_N n p u' → P u') → wpX_save P u := fun P hP => tw_save h hP
  obtain ⟨c, l, rs, rm, a1, a2, a3, a4, a5, a6, a7, a8, a9, a10, a11, a12, a13, a14, a15, a16, a17, a18, a19, a20, a21, a22, a23, a24, a25⟩ := u
  obtain ⟨T, hc, hP, _⟩ := h
  have hn := T.2.1
  unfold wpX_grow
  refine hb _ (br_t rfl ?_)
  refine pk_eq n 24 (fun _ => hu) (fun z => ?_) hc
  refine hs _ (fun u' h' => ?_)
  clear hu hb hs hc hP
  obtain ⟨c, l, rs, rm, a1, a2, a3, a4, a5, a6, a7, a8, a9, a10, a11, a12, a13, a14, a15, a16, a17, a18, a19, a20, a21, a22, a23, a24, a25⟩ := u'
  obtain ⟨hc, hl, hP⟩ := h'
  dsimp only
  rw [hc, nI_clamp (show n < 2 ^ 31 by omega)]
  refine ⟨vp_in_nI (by omega) (by omega), nm_e ⟨vp_in_nI (by omega) (by omega), nm_e (nm_r (nI_1 n) (H _ (n + 1) (tw_u p n q) _ _ (tw_N_B (tw_T_grow T hq (by omega)) ⟨rfl, hl, fun v v0 hv => ?_⟩)))⟩⟩
  by_cases e : v = n
  · rw [e, pk_us, tw_us]
  · rw [pk_un e, tw_un e]
    exact hP v v0 (by omega)
/-- parts are stretches -/
theorem tw_nest {n : Nat} {p dp sz hd pl : Nat → Nat} (T : tw_T n p dp) {a9 a10 a11 : Nat → Int32} (h : tw_H n p sz hd pl a9 a10 a11) : ∀ m q, dp q = m → q < n → ∀ k, k ≤ dp q → pl (tw_ak p dp q k) ≤ pl q ∧ pl q + sz q ≤ pl (tw_ak p dp q k) + sz (tw_ak p dp q k) := by
  intro m
  induction m with
  | zero =>
    intro q hq hqn k hk
    rw [show k = dp q by omega, tw_ak_self]
    exact ⟨Nat.le_refl _, Nat.le_refl _⟩
  | succ m ih =>
    intro q hq hqn k hk
    by_cases e : k = dp q
    · rw [e, tw_ak_self]
      exact ⟨Nat.le_refl _, Nat.le_refl _⟩
    · have q0 : 0 < q := by
        rcases Nat.eq_zero_or_pos q with z | z
        · rw [z, T.2.2.1] at hq; omega
        · exact z
      obtain ⟨t1, t2⟩ := T.2.2.2 q q0 hqn
      obtain ⟨n1, n2, _⟩ := h.2.2.2.2 q q0 hqn
      have i := ih (p q) (by omega) t1 k (by omega)
      rw [tw_ak_p T q0 hqn (by omega)]
      omega
theorem tw_T_move {n v q : Nat} {p dp : Nat → Nat} (T : tw_T n p dp) (v0 : 0 < v) (hv : v < n) (hq : q < n) (h : ¬ (dp v ≤ dp q ∧ tw_ak p dp q (dp v) = v)) : ∃ dp', tw_T n (tw_u p v q) dp' := by
  have key : ∀ w, 0 < w → w < n → w ≠ v → ((dp v ≤ dp w ∧ tw_ak p dp w (dp v) = v) ↔ (dp v ≤ dp (p w) ∧ tw_ak p dp (p w) (dp v) = v)) := by
    intro w w0 hw hne
    have t := T.2.2.2 w w0 hw
    constructor
    · intro ⟨z1, z2⟩
      have : dp v ≠ dp w := fun y => by
        rw [y, tw_ak_self] at z2
        exact hne z2
      refine ⟨by omega, ?_⟩
      rw [← tw_ak_p T w0 hw (by omega)]
      exact z2
    · intro ⟨z1, z2⟩
      refine ⟨by omega, ?_⟩
      rw [tw_ak_p T w0 hw z1]
      exact z2
  refine ⟨fun w => if dp v ≤ dp w ∧ tw_ak p dp w (dp v) = v then dp w + (dp q + 1) - dp v else dp w, T.1, T.2.1, ?_, fun w w0 hw => ?_⟩
  · show (if _ then _ else _) = 0
    rw [if_neg]
    · exact T.2.2.1
    · intro z
      have := tw_dp_pos T v0 hv
      have := z.1
      rw [T.2.2.1] at this
      omega
  · by_cases e : w = v
    · rw [e, tw_us]
      refine ⟨hq, ?_⟩
      show (if dp v ≤ dp v ∧ tw_ak p dp v (dp v) = v then dp v + (dp q + 1) - dp v else dp v) = (if dp v ≤ dp q ∧ tw_ak p dp q (dp v) = v then dp q + (dp q + 1) - dp v else dp q) + 1
      rw [if_neg h, if_pos ⟨Nat.le_refl _, tw_ak_self p dp v⟩]
      omega
    · have t := T.2.2.2 w w0 hw
      rw [tw_un e]
      refine ⟨t.1, ?_⟩
      show (if dp v ≤ dp w ∧ tw_ak p dp w (dp v) = v then dp w + (dp q + 1) - dp v else dp w) = (if dp v ≤ dp (p w) ∧ tw_ak p dp (p w) (dp v) = v then dp (p w) + (dp q + 1) - dp v else dp (p w)) + 1
      by_cases y : dp v ≤ dp w ∧ tw_ak p dp w (dp v) = v
      · have y' := (key w w0 hw e).mp y
        rw [if_pos y, if_pos y']
        omega
      · rw [if_neg y, if_neg (fun z => y ((key w w0 hw e).mpr z))]
        exact t.2
theorem tw_move {post : Int32 → St1 → Prop} {n v q : Nat} {p dp : Nat → Nat} {u : St1} (h : tw_B n p dp u) (hv : v < n) (hq : q < n) (H : ∀ r n' p' dp' u', tw_B n' p' dp' u' → post r u') : wpX_move post u (nI v) (nI q) := by
  have hb : ∀ P : Int32 → Prop, P 0 → wpX_bad P u (nI v) := fun P hP => tw_bad h hv hP
  have hb2 : ∀ P : Int32 → Prop, P 0 → wpX_bad P u (nI q) := fun P hP => tw_bad h hq hP
  have hs : ∀ P : St1 → Prop, (∀ V u', tw_L n p dp V u' → P u') → wpX_lay P u := fun P hP => tw_lay h hP
  clear h
  obtain ⟨c, l, rs, rm, a1, a2, a3, a4, a5, a6, a7, a8, a9, a10, a11, a12, a13, a14, a15, a16, a17, a18, a19, a20, a21, a22, a23, a24, a25⟩ := u
  unfold wpX_move
  refine hb _ (br_t rfl (hb2 _ (br_t rfl (hs _ (fun V u' h' => ?_)))))
  clear hb hb2 hs
  have hB := tw_L_B h'
  obtain ⟨c, l, rs, rm, a1, a2, a3, a4, a5, a6, a7, a8, a9, a10, a11, a12, a13, a14, a15, a16, a17, a18, a19, a20, a21, a22, a23, a24, a25⟩ := u'
  have h2 := h'
  obtain ⟨T, hc, hl, hP, sz, hd, pl, hZ, h6, h7, hH, hJ, hV, hC⟩ := h2
  have hn := T.2.1
  dsimp only
  have no : ∀ (z : Int32), (z = 0 → v ≠ 0 → ¬ (dp v ≤ dp q ∧ tw_ak p dp q (dp v) = v)) → wX_move_65 post (nI v) (nI q) z c l rs rm a1 a2 a3 a4 a5 a6 a7 a8 a9 a10 a11 a12 a13 a14 a15 a16 a17 a18 a19 a20 a21 a22 a23 a24 a25 := by
    intro z hz
    unfold wX_move_65
    refine pk_eq v 0 (fun _ => H _ n p dp _ hB) (fun v0 => br_c (fun y => ?_) (fun _ => H _ n p dp _ hB))
    refine tw_save hB (fun u' h' => ?_)
    clear hB hP
    obtain ⟨dp', T'⟩ := tw_T_move T (by omega) hv hq (hz y v0)
    obtain ⟨c_x, l_x, rs_x, rm_x, a1_x, a2_x, a3_x, a4_x, a5_x, a6_x, a7_x, a8_x, a9_x, a10_x, a11_x, a12_x, a13_x, a14_x, a15_x, a16_x, a17_x, a18_x, a19_x, a20_x, a21_x, a22_x, a23_x, a24_x, a25_x⟩ := u'
    obtain ⟨hc', hl', hP'⟩ := h'
    dsimp only
    rw [nI_clamp (show v < 2 ^ 31 by omega)]
    refine ⟨vp_in_nI (by omega) (by omega), nm_e ⟨vp_in_nI (by omega) (by omega), nm_e (H _ n _ dp' _ (tw_N_B T' ⟨hc', hl', fun w w0 hw => ?_⟩))⟩⟩
    by_cases e : w = v
    · rw [e, pk_us, tw_us]
    · rw [pk_un e, tw_un e]
      exact hP' w w0 hw
  have nst : (dp v ≤ dp q ∧ tw_ak p dp q (dp v) = v) → pl v ≤ pl q ∧ pl q < pl v + sz v := by
    intro ⟨z1, z2⟩
    have := tw_nest T hH _ q rfl hq (dp v) z1
    have := hZ.2 q hq
    rw [z2] at *
    omega
  have e1 : (nI v).toNatClampNeg = v := nI_clamp (by omega)
  have e2 : (nI q).toNatClampNeg = q := nI_clamp (by omega)
  have plv := (hH.1 v hv).2.2.1
  have plq := (hH.1 q hq).2.2.1
  have szv := tw_nest T hH _ v rfl hv 0 (by omega)
  rw [tw_ak_0 T hv, hH.2.2.2.1, hZ.1] at szv
  rw [e1, e2, (hH.1 v hv).2.1, (hH.1 q hq).2.1, h6 v hv, nI_add]
  refine ⟨vp_in_nI (by omega) (by omega), vp_in_nI (by omega) (by omega), pk_lt (pl q) (pl v) (fun z => ?_) (fun z => ⟨vp_in_nI (by omega) (by omega), vp_in_nI (by omega) (by omega), vp_in_nI (by omega) (by omega), pk_le (pl v + sz v) (pl q) (fun y => ?_) (fun y => ?_)⟩)⟩
  · unfold wX_move_64
    exact no 0 (fun _ _ w => by have := nst w; omega)
  · unfold wX_move_64
    exact no 0 (fun _ _ w => by have := nst w; omega)
  · exact no 1 (fun w => absurd w (by decide))
theorem tw_addRow_L {post : St1 → Prop} {n a b : Nat} {p dp : Nat → Nat} {V : Nat → Int32} {u : St1} {x : Int32} (h : tw_L n p dp V u) (ha : a < 32) (hb : b < 32) (H : ∀ V' u', tw_L n p dp V' u' → post u') : wpX_addRow post u (nI a) (nI b) x := by
  obtain ⟨c, l, rs, rm, a1, a2, a3, a4, a5, a6, a7, a8, a9, a10, a11, a12, a13, a14, a15, a16, a17, a18, a19, a20, a21, a22, a23, a24, a25⟩ := u
  obtain ⟨T, hc, hl, hP, sz, hd, pl, hZ, h6, h7, hH, hJ, hV, hC⟩ := h
  refine tw_addRow ha hb hJ (fun S M P k1 => ?_)
  exact H (fun v => tw_E S P (32 + pl v)) _ ⟨T, hc, hl, hP, sz, hd, pl, hZ, h6, h7, hH, k1, fun _ _ => rfl, hC⟩
theorem tw_put {post : Int32 → St1 → Prop} {n v : Nat} {p dp : Nat → Nat} {u : St1} {x : Int32} (h : tw_B n p dp u) (hv : v < n) (H : ∀ r n' p' dp' u', tw_B n' p' dp' u' → post r u') : wpX_put post u (nI v) x := by
  have hu := H (-1000000) n p dp u h
  have hb : ∀ P : Int32 → Prop, P 0 → wpX_bad P u (nI v) := fun P hP => tw_bad h hv hP
  have hs : ∀ P : Int32 → St1 → Prop, (∀ V u', tw_L n p dp V u' → P (V v) u') → wpX_value P u (nI v) := fun P hP => tw_value h hv hP
  clear h
  obtain ⟨c, l, rs, rm, a1, a2, a3, a4, a5, a6, a7, a8, a9, a10, a11, a12, a13, a14, a15, a16, a17, a18, a19, a20, a21, a22, a23, a24, a25⟩ := u
  unfold wpX_put
  refine hb _ (br_t rfl (br_c (fun _ => hu) (fun _ => br_c (fun _ => hs _ (fun V u' h' => ?_)) (fun _ => hu))))
  clear hb hs hu
  obtain ⟨c, l, rs, rm, a1, a2, a3, a4, a5, a6, a7, a8, a9, a10, a11, a12, a13, a14, a15, a16, a17, a18, a19, a20, a21, a22, a23, a24, a25⟩ := u'
  have h2 := h'
  obtain ⟨T, hc, hl, hP, sz, hd, pl, hZ, h6, h7, hH, hJ, hV, hC⟩ := h2
  have hn := T.2.1
  have plv := (hH.1 v hv).2.2.1
  dsimp only
  rw [nI_clamp (show v < 2 ^ 31 by omega), (hH.1 v hv).2.1]
  refine ⟨vp_in_nI (by omega) (by omega), vp_in_nI (by omega) (by omega), tw_addRow_L h' (by omega) (by omega) (fun V' u2 h2 => ?_)⟩
  obtain ⟨c_x, l_x, rs_x, rm_x, a1_x, a2_x, a3_x, a4_x, a5_x, a6_x, a7_x, a8_x, a9_x, a10_x, a11_x, a12_x, a13_x, a14_x, a15_x, a16_x, a17_x, a18_x, a19_x, a20_x, a21_x, a22_x, a23_x, a24_x, a25_x⟩ := u2
  exact H _ n p dp _ (tw_L_B h2)
theorem tw_addWay {post : Int32 → St1 → Prop} {n v w : Nat} {p dp : Nat → Nat} {u : St1} {x : Int32} (h : tw_B n p dp u) (hv : v < n) (hw : w < n) (H : ∀ r n' p' dp' u', tw_B n' p' dp' u' → post r u') : wpX_addWay post u (nI v) (nI w) x := by
  have hu := H (-1000000) n p dp u h
  have hb : ∀ P : Int32 → Prop, P 0 → wpX_bad P u (nI v) := fun P hP => tw_bad h hv hP
  have hb2 : ∀ P : Int32 → Prop, P 0 → wpX_bad P u (nI w) := fun P hP => tw_bad h hw hP
  have hs : ∀ P : St1 → Prop, (∀ V u', tw_L n p dp V u' → P u') → wpX_lay P u := fun P hP => tw_lay h hP
  clear h
  obtain ⟨c, l, rs, rm, a1, a2, a3, a4, a5, a6, a7, a8, a9, a10, a11, a12, a13, a14, a15, a16, a17, a18, a19, a20, a21, a22, a23, a24, a25⟩ := u
  unfold wpX_addWay
  refine hb _ (br_t rfl (hb2 _ (br_t rfl (br_c (fun _ => hu) (fun _ => br_c (fun _ => hs _ (fun V u' h' => ?_)) (fun _ => hu))))))
  clear hb hb2 hs hu
  obtain ⟨c, l, rs, rm, a1, a2, a3, a4, a5, a6, a7, a8, a9, a10, a11, a12, a13, a14, a15, a16, a17, a18, a19, a20, a21, a22, a23, a24, a25⟩ := u'
  refine tw_along2 h' hv hw (fun V2 u2 h2 => ?_)
  obtain ⟨c_x, l_x, rs_x, rm_x, a1_x, a2_x, a3_x, a4_x, a5_x, a6_x, a7_x, a8_x, a9_x, a10_x, a11_x, a12_x, a13_x, a14_x, a15_x, a16_x, a17_x, a18_x, a19_x, a20_x, a21_x, a22_x, a23_x, a24_x, a25_x⟩ := u2
  refine tw_apart h2 hv hw ?_
  exact H _ n p dp _ (tw_L_B h2)
theorem tw_addPart {post : Int32 → St1 → Prop} {n v : Nat} {p dp : Nat → Nat} {u : St1} {x : Int32} (h : tw_B n p dp u) (hv : v < n) (H : ∀ r n' p' dp' u', tw_B n' p' dp' u' → post r u') : wpX_addPart post u (nI v) x := by
  have hu := H (-1000000) n p dp u h
  have hb : ∀ P : Int32 → Prop, P 0 → wpX_bad P u (nI v) := fun P hP => tw_bad h hv hP
  have hs : ∀ P : St1 → Prop, (∀ V u', tw_L n p dp V u' → P u') → wpX_lay P u := fun P hP => tw_lay h hP
  clear h
  obtain ⟨c, l, rs, rm, a1, a2, a3, a4, a5, a6, a7, a8, a9, a10, a11, a12, a13, a14, a15, a16, a17, a18, a19, a20, a21, a22, a23, a24, a25⟩ := u
  unfold wpX_addPart
  refine hb _ (br_t rfl (br_c (fun _ => hu) (fun _ => br_c (fun _ => hs _ (fun V u' h' => ?_)) (fun _ => hu))))
  clear hb hs hu
  obtain ⟨c, l, rs, rm, a1, a2, a3, a4, a5, a6, a7, a8, a9, a10, a11, a12, a13, a14, a15, a16, a17, a18, a19, a20, a21, a22, a23, a24, a25⟩ := u'
  have h2 := h'
  obtain ⟨T, hc, hl, hP, sz, hd, pl, hZ, h6, h7, hH, hJ, hV, hC⟩ := h2
  have hn := T.2.1
  have plv := (hH.1 v hv).2.2.1
  have szv := tw_nest T hH _ v rfl hv 0 (by omega)
  rw [tw_ak_0 T hv, hH.2.2.2.1, hZ.1] at szv
  have sz1 := hZ.2 v hv
  dsimp only
  rw [nI_clamp (show v < 2 ^ 31 by omega), (hH.1 v hv).2.1, h6 v hv, nI_add, show nI (pl v + sz v) - 1 = nI (pl v + sz v - 1) from pk_sub (b := 1) (by omega)]
  refine ⟨vp_in_nI (by omega) (by omega), vp_in_nI (by omega) (by omega), vp_in_nI (by omega) (by omega), tw_addRow_L h' (by omega) (by omega) (fun V' u2 h2 => ?_)⟩
  obtain ⟨c_x, l_x, rs_x, rm_x, a1_x, a2_x, a3_x, a4_x, a5_x, a6_x, a7_x, a8_x, a9_x, a10_x, a11_x, a12_x, a13_x, a14_x, a15_x, a16_x, a17_x, a18_x, a19_x, a20_x, a21_x, a22_x, a23_x, a24_x, a25_x⟩ := u2
  exact ⟨vp_in_nI (by omega) (by omega), H _ n p dp _ (tw_L_B h2)⟩
theorem tw_turn {post : Int32 → St1 → Prop} {n : Nat} {p dp : Nat → Nat} {u : St1} {x y : Int32} (h : tw_B n p dp u) (H : ∀ r n' p' dp' u', tw_B n' p' dp' u' → post r u') : wpL_turn post u x y := by
  obtain ⟨c, l, rs, rm, a1, a2, a3, a4, a5, a6, a7, a8, a9, a10, a11, a12, a13, a14, a15, a16, a17, a18, a19, a20, a21, a22, a23, a24, a25⟩ := u
  have h2 := h
  obtain ⟨T, hc, _⟩ := h2
  have hn := T.2.1
  have hn0 := T.1
  obtain ⟨j, hj, ej⟩ := pk_andE y (m := 31) 5 (by decide)
  obtain ⟨k, hk, ek⟩ := pk_andE (y >>> ((5 : Int32) &&& 31)) (m := 31) 5 (by decide)
  unfold wpL_turn
  refine nm_e ?_
  unfold wpX_nodes
  dsimp only
  rw [hc, ej, ek]
  rw [hc] at h
  have c0 : ¬ nI n = 0 := nI_ne0 hn0 (by omega)
  refine ⟨c0, nm_r (pk_rem (by omega) hn0 (by omega)) ⟨c0, nm_r (pk_rem (by omega) hn0 (by omega)) ⟨by decide, nm_e ?_⟩⟩⟩
  have hjn : j % n < n := Nat.mod_lt _ hn0
  have hkn : k % n < n := Nat.mod_lt _ hn0
  have H' : ∀ r n' p' dp' (u' : St1), tw_B n' p' dp' u' → (match u' with | (c_x, l_x, rs_x, rm_x, a1_x, a2_x, a3_x, a4_x, a5_x, a6_x, a7_x, a8_x, a9_x, a10_x, a11_x, a12_x, a13_x, a14_x, a15_x, a16_x, a17_x, a18_x, a19_x, a20_x, a21_x, a22_x, a23_x, a24_x, a25_x) => post r (c_x, l_x, rs_x, rm_x, a1_x, a2_x, a3_x, a4_x, a5_x, a6_x, a7_x, a8_x, a9_x, a10_x, a11_x, a12_x, a13_x, a14_x, a15_x, a16_x, a17_x, a18_x, a19_x, a20_x, a21_x, a22_x, a23_x, a24_x, a25_x)) := by
    intro r n' p' dp' u' hu'
    obtain ⟨c_x, l_x, rs_x, rm_x, a1_x, a2_x, a3_x, a4_x, a5_x, a6_x, a7_x, a8_x, a9_x, a10_x, a11_x, a12_x, a13_x, a14_x, a15_x, a16_x, a17_x, a18_x, a19_x, a20_x, a21_x, a22_x, a23_x, a24_x, a25_x⟩ := u'
    exact H r n' p' dp' _ hu'
  exact br_c (fun _ => br_c (fun _ => br_c (fun _ => br_c (fun _ => tw_addPart h hjn H') (fun _ => tw_addWay h hjn hkn H')) (fun _ => tw_put h hjn H')) (fun _ => tw_move h hjn hkn H')) (fun _ => tw_grow h hjn H')
end
section
/-- a widest way so far -/
def tw_wd (n : Nat) (p dp : Nat → Nat) (i j s : Nat) : Prop := s < 24 ∧ (∀ a b, a < i → b < n → tw_d p dp a b ≤ s) ∧ (∀ b, b < j → tw_d p dp i b ≤ s) ∧ (s = 0 ∨ ∃ a b, a < n ∧ b < n ∧ tw_d p dp a b = s)
theorem tw_law353 {L kc ks n v w : Nat} {xs : Nat → Int32} {x4 x5 x8 : Int32} {p dp : Nat → Nat} {V : Nat → Int32} {u : St1} (h : tw_L n p dp V u) (hv : v < n) (h4 : x4 = tw_s V n) (h5 : x5 = nI w) (hw : tw_wd n p dp n 0 w) (h8 : x8 = nI (tw_t (fun a => tw_d p dp a v) n)) : ∃ fu, wL_law_353 (fun r => r = 1) L xs (nI n) x4 x5 (nI v) x8 kc ks fu 0 u.1 u.2.1 u.2.2.1 u.2.2.2.1 u.2.2.2.2.1 u.2.2.2.2.2.1 u.2.2.2.2.2.2.1 u.2.2.2.2.2.2.2.1 u.2.2.2.2.2.2.2.2.1 u.2.2.2.2.2.2.2.2.2.1 u.2.2.2.2.2.2.2.2.2.2.1 u.2.2.2.2.2.2.2.2.2.2.2.1 u.2.2.2.2.2.2.2.2.2.2.2.2.1 u.2.2.2.2.2.2.2.2.2.2.2.2.2.1 u.2.2.2.2.2.2.2.2.2.2.2.2.2.2.1 u.2.2.2.2.2.2.2.2.2.2.2.2.2.2.2.1 u.2.2.2.2.2.2.2.2.2.2.2.2.2.2.2.2.1 u.2.2.2.2.2.2.2.2.2.2.2.2.2.2.2.2.2.1 u.2.2.2.2.2.2.2.2.2.2.2.2.2.2.2.2.2.2.1 u.2.2.2.2.2.2.2.2.2.2.2.2.2.2.2.2.2.2.2.1 u.2.2.2.2.2.2.2.2.2.2.2.2.2.2.2.2.2.2.2.2.1 u.2.2.2.2.2.2.2.2.2.2.2.2.2.2.2.2.2.2.2.2.2.1 u.2.2.2.2.2.2.2.2.2.2.2.2.2.2.2.2.2.2.2.2.2.2.1 u.2.2.2.2.2.2.2.2.2.2.2.2.2.2.2.2.2.2.2.2.2.2.2.1 u.2.2.2.2.2.2.2.2.2.2.2.2.2.2.2.2.2.2.2.2.2.2.2.2.1 u.2.2.2.2.2.2.2.2.2.2.2.2.2.2.2.2.2.2.2.2.2.2.2.2.2.1 u.2.2.2.2.2.2.2.2.2.2.2.2.2.2.2.2.2.2.2.2.2.2.2.2.2.2.1 u.2.2.2.2.2.2.2.2.2.2.2.2.2.2.2.2.2.2.2.2.2.2.2.2.2.2.2.1 u.2.2.2.2.2.2.2.2.2.2.2.2.2.2.2.2.2.2.2.2.2.2.2.2.2.2.2.2 := by
  obtain ⟨c, l, rs, rm, a1, a2, a3, a4, a5, a6, a7, a8, a9, a10, a11, a12, a13, a14, a15, a16, a17, a18, a19, a20, a21, a22, a23, a24, a25⟩ := u
  dsimp only
  have T := h.1
  have hn := T.2.1
  refine pk_loop (σ := Unit) (fun k i _ => wL_law_353 (fun r => r = 1) L xs (nI n) x4 x5 (nI v) x8 kc ks k (nI i) c l rs rm a1 a2 a3 a4 a5 a6 a7 a8 a9 a10 a11 a12 a13 a14 a15 a16 a17 a18 a19 a20 a21 a22 a23 a24 a25) (fun _ _ => True) 25 0 () (by omega) trivial ?_ ?_
  · intro k _ _
    refine pk_le 25 25 (fun _ => ?_) (fun z => absurd z (by omega))
    refine tw_partSum h (fun u1 h1 => ?_)
    obtain ⟨c_x, l_x, rs_x, rm_x, a1_x, a2_x, a3_x, a4_x, a5_x, a6_x, a7_x, a8_x, a9_x, a10_x, a11_x, a12_x, a13_x, a14_x, a15_x, a16_x, a17_x, a18_x, a19_x, a20_x, a21_x, a22_x, a23_x, a24_x, a25_x⟩ := u1
    refine br_t h4.symm ?_
    refine tw_within (d := 24) h1 hv (by omega) ?_
    have e1 : tw_n (fun w => tw_d p dp v w ≤ 24) n = n := tw_n_all n (fun w hw => by have := tw_d_lt T hv hw; omega)
    rw [e1]
    refine br_t rfl ?_
    refine tw_farSum h1 hv ?_
    refine br_t ?_ ?_
    · rw [h8]
      exact congrArg nI (tw_t_c n (fun w hw => tw_d_comm T hv hw))
    · refine tw_widest h1 (fun b hb b1 b2 => ?_)
      have : b = w := by
        obtain ⟨w0, w1, _, w3⟩ := hw
        apply Nat.le_antisymm
        · rcases b2 with z | ⟨x, y, hx, hy, e⟩
          · omega
          · have := w1 x y hx hy
            omega
        · rcases w3 with z | ⟨x, y, hx, hy, e⟩
          · omega
          · have := b1 x y hx hy
            omega
      exact br_t (by rw [h5, this]) rfl
  · intro k i _ hi _ hw'
    refine pk_le 25 i (fun z => absurd z (by omega)) (fun _ => ?_)
    refine tw_within h hv (by omega) ?_
    rcases Nat.eq_zero_or_pos i with z | z
    · subst z
      refine tw_within_m h hv (by decide) ?_
      refine br_t (nI_pos' (by have := tw_n_m (P := fun w => tw_d p dp v w ≤ 0) n; omega)) (nm_r (nI_1 0) (hw' () trivial))
    · rw [show nI i - 1 = nI (i - 1) from pk_sub (b := 1) z]
      refine tw_within h hv (by omega) ?_
      have := tw_n_m (P := fun w => tw_d p dp v w ≤ i) n
      exact br_t (nI_le (tw_n_le n (fun w _ y => by omega)) (by omega)) (nm_r (nI_1 i) (hw' () trivial))
theorem tw_law255 {L kc ks n i v w : Nat} {xs : Nat → Int32} {x3 x4 x5 x8 : Int32} {J : Int32 → Int32 → Int32 → Int32 → Int32 → Int32 → Int32 → Int32 → (Nat → Int32) → (Nat → Int32) → (Nat → Int32) → (Nat → Int32) → (Nat → Int32) → (Nat → Int32) → (Nat → Int32) → (Nat → Int32) → (Nat → Int32) → (Nat → Int32) → (Nat → Int32) → (Nat → Int32) → (Nat → Int32) → (Nat → Int32) → (Nat → Int32) → (Nat → Int32) → (Nat → Int32) → (Nat → Int32) → (Nat → Int32) → (Nat → Int32) → (Nat → Int32) → (Nat → Int32) → (Nat → Int32) → (Nat → Int32) → (Nat → Int32) →  Prop} {post : Int32 → Prop} {p dp : Nat → Nat} {V : Nat → Int32} {c l rs rm : Int32} {a1 a2 a3 a4 a5 a6 a7 a8 a9 a10 a11 a12 a13 a14 a15 a16 a17 a18 a19 a20 a21 a22 a23 a24 a25 : Nat → Int32} (h : tw_L n p dp V (c, l, rs, rm, a1, a2, a3, a4, a5, a6, a7, a8, a9, a10, a11, a12, a13, a14, a15, a16, a17, a18, a19, a20, a21, a22, a23, a24, a25)) (hi : i < n) (hv : v < n) (hw : w < n) (H : J x4 x5 x8 (nI (i + 1)) c l rs rm a1 a2 a3 a4 a5 a6 a7 a8 a9 a10 a11 a12 a13 a14 a15 a16 a17 a18 a19 a20 a21 a22 a23 a24 a25) : wL_law_255 post L xs J x3 x4 x5 (nI v) (nI w) x8 (nI i) kc ks c l rs rm a1 a2 a3 a4 a5 a6 a7 a8 a9 a10 a11 a12 a13 a14 a15 a16 a17 a18 a19 a20 a21 a22 a23 a24 a25 := by
  have T := h.1
  have m1 := tw_mid_1 T hi hv hw
  have m2 := tw_mid_2 T hi hv hw
  have m3 := m2.trans (tw_mid_1 T hi hw hv)
  have m4 := m3.trans (tw_mid_2 T hw hi hv)
  have m5 := m1.trans (tw_mid_2 T hv hi hw)
  unfold wL_law_255
  refine tw_middle h hi hv hw ?_
  refine tw_middle h hv hi hw (br_t m1 ?_)
  refine tw_middle h hw hv hi (br_t m4 ?_)
  refine tw_middle h hi hw hv (br_t m2 ?_)
  refine tw_middle h hv hw hi (br_t m5 ?_)
  exact tw_middle h hw hi hv (br_t m3 (nm_r (nI_1 i) H))
theorem tw_law172 {L kc ks n i j v w : Nat} {xs : Nat → Int32} {x3 x4 x8 z0 : Int32} {J : Int32 → Int32 → Int32 → Int32 → Int32 → Int32 → Int32 → Int32 → (Nat → Int32) → (Nat → Int32) → (Nat → Int32) → (Nat → Int32) → (Nat → Int32) → (Nat → Int32) → (Nat → Int32) → (Nat → Int32) → (Nat → Int32) → (Nat → Int32) → (Nat → Int32) → (Nat → Int32) → (Nat → Int32) → (Nat → Int32) → (Nat → Int32) → (Nat → Int32) → (Nat → Int32) → (Nat → Int32) → (Nat → Int32) → (Nat → Int32) → (Nat → Int32) → (Nat → Int32) → (Nat → Int32) → (Nat → Int32) → (Nat → Int32) →  Prop} {J2 : Int32 → Int32 → Int32 → Int32 → Int32 → Int32 → (Nat → Int32) → (Nat → Int32) → (Nat → Int32) → (Nat → Int32) → (Nat → Int32) → (Nat → Int32) → (Nat → Int32) → (Nat → Int32) → (Nat → Int32) → (Nat → Int32) → (Nat → Int32) → (Nat → Int32) → (Nat → Int32) → (Nat → Int32) → (Nat → Int32) → (Nat → Int32) → (Nat → Int32) → (Nat → Int32) → (Nat → Int32) → (Nat → Int32) → (Nat → Int32) → (Nat → Int32) → (Nat → Int32) → (Nat → Int32) → (Nat → Int32) →  Prop} {post : Int32 → Prop} {p dp : Nat → Nat} {V : Nat → Int32} {c l rs rm : Int32} {a1 a2 a3 a4 a5 a6 a7 a8 a9 a10 a11 a12 a13 a14 a15 a16 a17 a18 a19 a20 a21 a22 a23 a24 a25 : Nat → Int32} (h : tw_L n p dp V (c, l, rs, rm, a1, a2, a3, a4, a5, a6, a7, a8, a9, a10, a11, a12, a13, a14, a15, a16, a17, a18, a19, a20, a21, a22, a23, a24, a25)) (hi : i < n) (hj : j < n) (H : J2 z0 (nI (j + 1)) c l rs rm a1 a2 a3 a4 a5 a6 a7 a8 a9 a10 a11 a12 a13 a14 a15 a16 a17 a18 a19 a20 a21 a22 a23 a24 a25) : wL_law_172 post L xs J J2 x3 x4 (nI v) (nI w) x8 (nI i) (nI j) (nI (tw_d p dp i j)) (nI (tw_f p dp i j)) z0 kc ks c l rs rm a1 a2 a3 a4 a5 a6 a7 a8 a9 a10 a11 a12 a13 a14 a15 a16 a17 a18 a19 a20 a21 a22 a23 a24 a25 := by
  have T := h.1
  have hl := tw_l_le T hi hj
  obtain ⟨f1, f2⟩ := tw_f_dp T hi hj
  unfold wL_law_172
  refine tw_depth h hi (tw_depth h hj (tw_depth h f1 (br_t ?_ ?_)))
  · rw [f2, nI_add, tw_2m, pk_sub (by omega)]
    rfl
  · refine tw_way0 h hi hj (br_t rfl ?_)
    refine tw_way1 T h hi hj (br_t rfl ?_)
    exact tw_way2 T h hi hj (br_t rfl (nm_r (nI_1 j) H))
theorem tw_law125 {L kc ks n i v w s : Nat} {xs : Nat → Int32} {x4 x8 : Int32} {J : Int32 → Int32 → Int32 → Int32 → Int32 → Int32 → Int32 → Int32 → (Nat → Int32) → (Nat → Int32) → (Nat → Int32) → (Nat → Int32) → (Nat → Int32) → (Nat → Int32) → (Nat → Int32) → (Nat → Int32) → (Nat → Int32) → (Nat → Int32) → (Nat → Int32) → (Nat → Int32) → (Nat → Int32) → (Nat → Int32) → (Nat → Int32) → (Nat → Int32) → (Nat → Int32) → (Nat → Int32) → (Nat → Int32) → (Nat → Int32) → (Nat → Int32) → (Nat → Int32) → (Nat → Int32) → (Nat → Int32) → (Nat → Int32) →  Prop} {post : Int32 → Prop} {p dp : Nat → Nat} {V : Nat → Int32} {c l rs rm : Int32} {a1 a2 a3 a4 a5 a6 a7 a8 a9 a10 a11 a12 a13 a14 a15 a16 a17 a18 a19 a20 a21 a22 a23 a24 a25 : Nat → Int32} (h : tw_L n p dp V (c, l, rs, rm, a1, a2, a3, a4, a5, a6, a7, a8, a9, a10, a11, a12, a13, a14, a15, a16, a17, a18, a19, a20, a21, a22, a23, a24, a25)) (hi : i < n) (hv : v < n) (hw : w < n) (hs : tw_wd n p dp i 0 s) (H : ∀ s', tw_wd n p dp (i + 1) 0 s' → J x4 (nI s') x8 (nI (i + 1)) c l rs rm a1 a2 a3 a4 a5 a6 a7 a8 a9 a10 a11 a12 a13 a14 a15 a16 a17 a18 a19 a20 a21 a22 a23 a24 a25) : ∃ fu, wL_law_125 post L xs J (nI n) x4 (nI v) (nI w) x8 (nI i) kc ks fu (nI s) 0 c l rs rm a1 a2 a3 a4 a5 a6 a7 a8 a9 a10 a11 a12 a13 a14 a15 a16 a17 a18 a19 a20 a21 a22 a23 a24 a25 := by
  have T := h.1
  have hn := T.2.1
  refine pk_loop (σ := Nat) (fun k j s => wL_law_125 post L xs J (nI n) x4 (nI v) (nI w) x8 (nI i) kc ks k (nI s) (nI j) c l rs rm a1 a2 a3 a4 a5 a6 a7 a8 a9 a10 a11 a12 a13 a14 a15 a16 a17 a18 a19 a20 a21 a22 a23 a24 a25) (fun j s => tw_wd n p dp i j s) n 0 s (by omega) hs ?_ ?_
  · intro k s ⟨h1, h2, h3, h4⟩
    have fin : wL_law_255 post L xs J (nI n) x4 (nI s) (nI v) (nI w) x8 (nI i) kc ks c l rs rm a1 a2 a3 a4 a5 a6 a7 a8 a9 a10 a11 a12 a13 a14 a15 a16 a17 a18 a19 a20 a21 a22 a23 a24 a25 := by
      refine tw_law255 h hi hv hw (H s ⟨h1, fun a b ha hb => ?_, fun b z => absurd z (by omega), h4⟩)
      by_cases e : a = i
      · rw [e]; exact h3 b hb
      · exact h2 a b (by omega) hb
    exact br_c (fun _ => fin) (fun _ => pk_le n n (fun _ => fin) (fun z => absurd z (by omega)))
  · intro k j s hj ⟨h1, h2, h3, h4⟩ hw'
    have hd := tw_d_lt T hi hj
    refine pk_le 24 j (fun z => absurd z (by omega)) (fun _ => pk_le n j (fun z => absurd z (by omega)) (fun _ => ?_))
    refine tw_distance h hi hj (tw_fork h hi hj ?_)
    refine pk_le (tw_d p dp i j) s (fun z => tw_law172 h hi hj (hw' s ⟨h1, h2, fun b hb => ?_, h4⟩)) (fun z => tw_law172 h hi hj (hw' (tw_d p dp i j) ⟨by omega, fun a b ha hb => ?_, fun b hb => ?_, Or.inr ⟨i, j, hi, hj, rfl⟩⟩))
    · by_cases e : b = j
      · rw [e]; exact z
      · exact h3 b (by omega)
    · have := h2 a b ha hb
      omega
    · by_cases e : b = j
      · rw [e]; exact Nat.le_refl _
      · have := h3 b (by omega)
        omega
theorem tw_law85 {L kc ks n v w : Nat} {xs : Nat → Int32} {p dp : Nat → Nat} {u : St1} (h : tw_B n p dp u) (T : tw_T n p dp) (hv : v < n) (hw : w < n) : ∃ fu, wL_law_85 (fun r => r = 1) L xs (nI n) (nI v) (nI w) kc ks fu 0 0 0 0 u.1 u.2.1 u.2.2.1 u.2.2.2.1 u.2.2.2.2.1 u.2.2.2.2.2.1 u.2.2.2.2.2.2.1 u.2.2.2.2.2.2.2.1 u.2.2.2.2.2.2.2.2.1 u.2.2.2.2.2.2.2.2.2.1 u.2.2.2.2.2.2.2.2.2.2.1 u.2.2.2.2.2.2.2.2.2.2.2.1 u.2.2.2.2.2.2.2.2.2.2.2.2.1 u.2.2.2.2.2.2.2.2.2.2.2.2.2.1 u.2.2.2.2.2.2.2.2.2.2.2.2.2.2.1 u.2.2.2.2.2.2.2.2.2.2.2.2.2.2.2.1 u.2.2.2.2.2.2.2.2.2.2.2.2.2.2.2.2.1 u.2.2.2.2.2.2.2.2.2.2.2.2.2.2.2.2.2.1 u.2.2.2.2.2.2.2.2.2.2.2.2.2.2.2.2.2.2.1 u.2.2.2.2.2.2.2.2.2.2.2.2.2.2.2.2.2.2.2.1 u.2.2.2.2.2.2.2.2.2.2.2.2.2.2.2.2.2.2.2.2.1 u.2.2.2.2.2.2.2.2.2.2.2.2.2.2.2.2.2.2.2.2.2.1 u.2.2.2.2.2.2.2.2.2.2.2.2.2.2.2.2.2.2.2.2.2.2.1 u.2.2.2.2.2.2.2.2.2.2.2.2.2.2.2.2.2.2.2.2.2.2.2.1 u.2.2.2.2.2.2.2.2.2.2.2.2.2.2.2.2.2.2.2.2.2.2.2.2.1 u.2.2.2.2.2.2.2.2.2.2.2.2.2.2.2.2.2.2.2.2.2.2.2.2.2.1 u.2.2.2.2.2.2.2.2.2.2.2.2.2.2.2.2.2.2.2.2.2.2.2.2.2.2.1 u.2.2.2.2.2.2.2.2.2.2.2.2.2.2.2.2.2.2.2.2.2.2.2.2.2.2.2.1 u.2.2.2.2.2.2.2.2.2.2.2.2.2.2.2.2.2.2.2.2.2.2.2.2.2.2.2.2 := by
  have hn := T.2.1
  have hn0 := T.1
  refine pk_loop (σ := Int32 × Nat × Int32 × St1) (fun k i s => wL_law_85 (fun r => r = 1) L xs (nI n) (nI v) (nI w) kc ks k s.1 (nI s.2.1) s.2.2.1 (nI i) s.2.2.2.1 s.2.2.2.2.1 s.2.2.2.2.2.1 s.2.2.2.2.2.2.1 s.2.2.2.2.2.2.2.1 s.2.2.2.2.2.2.2.2.1 s.2.2.2.2.2.2.2.2.2.1 s.2.2.2.2.2.2.2.2.2.2.1 s.2.2.2.2.2.2.2.2.2.2.2.1 s.2.2.2.2.2.2.2.2.2.2.2.2.1 s.2.2.2.2.2.2.2.2.2.2.2.2.2.1 s.2.2.2.2.2.2.2.2.2.2.2.2.2.2.1 s.2.2.2.2.2.2.2.2.2.2.2.2.2.2.2.1 s.2.2.2.2.2.2.2.2.2.2.2.2.2.2.2.2.1 s.2.2.2.2.2.2.2.2.2.2.2.2.2.2.2.2.2.1 s.2.2.2.2.2.2.2.2.2.2.2.2.2.2.2.2.2.2.1 s.2.2.2.2.2.2.2.2.2.2.2.2.2.2.2.2.2.2.2.1 s.2.2.2.2.2.2.2.2.2.2.2.2.2.2.2.2.2.2.2.2.1 s.2.2.2.2.2.2.2.2.2.2.2.2.2.2.2.2.2.2.2.2.2.1 s.2.2.2.2.2.2.2.2.2.2.2.2.2.2.2.2.2.2.2.2.2.2.1 s.2.2.2.2.2.2.2.2.2.2.2.2.2.2.2.2.2.2.2.2.2.2.2.1 s.2.2.2.2.2.2.2.2.2.2.2.2.2.2.2.2.2.2.2.2.2.2.2.2.1 s.2.2.2.2.2.2.2.2.2.2.2.2.2.2.2.2.2.2.2.2.2.2.2.2.2.1 s.2.2.2.2.2.2.2.2.2.2.2.2.2.2.2.2.2.2.2.2.2.2.2.2.2.2.1 s.2.2.2.2.2.2.2.2.2.2.2.2.2.2.2.2.2.2.2.2.2.2.2.2.2.2.2.1 s.2.2.2.2.2.2.2.2.2.2.2.2.2.2.2.2.2.2.2.2.2.2.2.2.2.2.2.2.1 s.2.2.2.2.2.2.2.2.2.2.2.2.2.2.2.2.2.2.2.2.2.2.2.2.2.2.2.2.2.1 s.2.2.2.2.2.2.2.2.2.2.2.2.2.2.2.2.2.2.2.2.2.2.2.2.2.2.2.2.2.2.1 s.2.2.2.2.2.2.2.2.2.2.2.2.2.2.2.2.2.2.2.2.2.2.2.2.2.2.2.2.2.2.2) (fun i s => tw_wd n p dp i 0 s.2.1 ∧ s.2.2.1 = nI (tw_t (fun a => tw_d p dp a v) i) ∧ ((i = 0 ∧ s.1 = 0 ∧ tw_B n p dp s.2.2.2) ∨ ∃ V, s.1 = tw_s V i ∧ tw_L n p dp V s.2.2.2)) n 0 (0, 0, 0, u) (by omega) ?_ ?_ ?_
  · exact ⟨⟨by dsimp only; omega, fun a b z => absurd z (by omega), fun b z => absurd z (by omega), Or.inl rfl⟩, rfl, Or.inl ⟨rfl, rfl, h⟩⟩
  · intro k ⟨x4, s, x8, u⟩ ⟨h1, h2, h3⟩
    dsimp only at h1 h2 h3 ⊢
    rcases h3 with ⟨z, _⟩ | ⟨V, h4, h5⟩
    · omega
    · have fin := tw_law353 (L := L) (xs := xs) (kc := kc) (ks := ks) h5 hv h4 rfl h1 h2
      exact br_c (fun _ => fin) (fun _ => pk_le n n (fun _ => fin) (fun z => absurd z (by omega)))
  · intro k i ⟨x4, s, x8, u⟩ hi ⟨h1, h2, h3⟩ hw'
    dsimp only at h1 h2 h3 hw' ⊢
    refine pk_le 24 i (fun z => absurd z (by omega)) (fun _ => pk_le n i (fun z => absurd z (by omega)) (fun _ => ?_))
    have go : ∀ (V : Nat → Int32) (u' : St1), x4 = tw_s V i → tw_L n p dp V u' → (match u' with | (c, l, rs, rm, a1, a2, a3, a4, a5, a6, a7, a8, a9, a10, a11, a12, a13, a14, a15, a16, a17, a18, a19, a20, a21, a22, a23, a24, a25) => ∀ x4_662, x4_662 = x4 + V i → wpX_distance (fun r_663 u => match u with | (c_x, l_x, rs_x, rm_x, a1_x, a2_x, a3_x, a4_x, a5_x, a6_x, a7_x, a8_x, a9_x, a10_x, a11_x, a12_x, a13_x, a14_x, a15_x, a16_x, a17_x, a18_x, a19_x, a20_x, a21_x, a22_x, a23_x, a24_x, a25_x) => ∀ x8_743, x8_743 = x8 + r_663 → ∃ fu125 : Nat, wL_law_125 (fun r => r = 1) L xs (wL_law_85 (fun r => r = 1) L xs (nI n) (nI v) (nI w) kc ks k) (nI n) x4_662 (nI v) (nI w) x8_743 (nI i) kc ks fu125 (nI s) 0 c_x l_x rs_x rm_x a1_x a2_x a3_x a4_x a5_x a6_x a7_x a8_x a9_x a10_x a11_x a12_x a13_x a14_x a15_x a16_x a17_x a18_x a19_x a20_x a21_x a22_x a23_x a24_x a25_x) (c, l, rs, rm, a1, a2, a3, a4, a5, a6, a7, a8, a9, a10, a11, a12, a13, a14, a15, a16, a17, a18, a19, a20, a21, a22, a23, a24, a25) (nI i) (nI v)) := by
      intro V u' e4 hu'
      obtain ⟨c, l, rs, rm, a1, a2, a3, a4, a5, a6, a7, a8, a9, a10, a11, a12, a13, a14, a15, a16, a17, a18, a19, a20, a21, a22, a23, a24, a25⟩ := u'
      refine nm_e ?_
      refine tw_distance hu' hi hv (nm_e ?_)
      refine tw_law125 hu' hi hv hw h1 (fun s' hs' => ?_)
      refine hw' (x4 + V i, s', x8 + nI (tw_d p dp i v), (c, l, rs, rm, a1, a2, a3, a4, a5, a6, a7, a8, a9, a10, a11, a12, a13, a14, a15, a16, a17, a18, a19, a20, a21, a22, a23, a24, a25)) ⟨hs', ?_, Or.inr ⟨V, by rw [e4]; rfl, hu'⟩⟩
      dsimp only
      rw [h2, nI_add]
      rfl
    rcases h3 with ⟨z, e4, hB⟩ | ⟨V, e4, hL⟩
    · have q : wpX_value (fun r_582 u' => match u' with | (c, l, rs, rm, a1, a2, a3, a4, a5, a6, a7, a8, a9, a10, a11, a12, a13, a14, a15, a16, a17, a18, a19, a20, a21, a22, a23, a24, a25) => ∀ x4_662, x4_662 = x4 + r_582 → wpX_distance (fun r_663 u => match u with | (c_x, l_x, rs_x, rm_x, a1_x, a2_x, a3_x, a4_x, a5_x, a6_x, a7_x, a8_x, a9_x, a10_x, a11_x, a12_x, a13_x, a14_x, a15_x, a16_x, a17_x, a18_x, a19_x, a20_x, a21_x, a22_x, a23_x, a24_x, a25_x) => ∀ x8_743, x8_743 = x8 + r_663 → ∃ fu125 : Nat, wL_law_125 (fun r => r = 1) L xs (wL_law_85 (fun r => r = 1) L xs (nI n) (nI v) (nI w) kc ks k) (nI n) x4_662 (nI v) (nI w) x8_743 (nI i) kc ks fu125 (nI s) 0 c_x l_x rs_x rm_x a1_x a2_x a3_x a4_x a5_x a6_x a7_x a8_x a9_x a10_x a11_x a12_x a13_x a14_x a15_x a16_x a17_x a18_x a19_x a20_x a21_x a22_x a23_x a24_x a25_x) (c, l, rs, rm, a1, a2, a3, a4, a5, a6, a7, a8, a9, a10, a11, a12, a13, a14, a15, a16, a17, a18, a19, a20, a21, a22, a23, a24, a25) (nI i) (nI v)) u (nI i) :=
        tw_value hB hi (fun V u' hu' => go V u' (by rw [e4, z]; rfl) hu')
      obtain ⟨c, l, rs, rm, a1, a2, a3, a4, a5, a6, a7, a8, a9, a10, a11, a12, a13, a14, a15, a16, a17, a18, a19, a20, a21, a22, a23, a24, a25⟩ := u
      exact q
    · have q : wpX_value (fun r_582 u' => match u' with | (c, l, rs, rm, a1, a2, a3, a4, a5, a6, a7, a8, a9, a10, a11, a12, a13, a14, a15, a16, a17, a18, a19, a20, a21, a22, a23, a24, a25) => ∀ x4_662, x4_662 = x4 + r_582 → wpX_distance (fun r_663 u => match u with | (c_x, l_x, rs_x, rm_x, a1_x, a2_x, a3_x, a4_x, a5_x, a6_x, a7_x, a8_x, a9_x, a10_x, a11_x, a12_x, a13_x, a14_x, a15_x, a16_x, a17_x, a18_x, a19_x, a20_x, a21_x, a22_x, a23_x, a24_x, a25_x) => ∀ x8_743, x8_743 = x8 + r_663 → ∃ fu125 : Nat, wL_law_125 (fun r => r = 1) L xs (wL_law_85 (fun r => r = 1) L xs (nI n) (nI v) (nI w) kc ks k) (nI n) x4_662 (nI v) (nI w) x8_743 (nI i) kc ks fu125 (nI s) 0 c_x l_x rs_x rm_x a1_x a2_x a3_x a4_x a5_x a6_x a7_x a8_x a9_x a10_x a11_x a12_x a13_x a14_x a15_x a16_x a17_x a18_x a19_x a20_x a21_x a22_x a23_x a24_x a25_x) (c, l, rs, rm, a1, a2, a3, a4, a5, a6, a7, a8, a9, a10, a11, a12, a13, a14, a15, a16, a17, a18, a19, a20, a21, a22, a23, a24, a25) (nI i) (nI v)) u (nI i) :=
        tw_value_L hL hi (fun u' hu' => go V u' e4 hu')
      obtain ⟨c, l, rs, rm, a1, a2, a3, a4, a5, a6, a7, a8, a9, a10, a11, a12, a13, a14, a15, a16, a17, a18, a19, a20, a21, a22, a23, a24, a25⟩ := u
      exact q
theorem tw_law23 {L kc ks n : Nat} {xs : Nat → Int32} {x2 : Int32} {p dp : Nat → Nat} {u : St1} (hL : L ≤ 260) (h : tw_B n p dp u) : ∃ fu, wL_law_23 (fun r => r = 1) L xs x2 kc ks fu 1 u.1 u.2.1 u.2.2.1 u.2.2.2.1 u.2.2.2.2.1 u.2.2.2.2.2.1 u.2.2.2.2.2.2.1 u.2.2.2.2.2.2.2.1 u.2.2.2.2.2.2.2.2.1 u.2.2.2.2.2.2.2.2.2.1 u.2.2.2.2.2.2.2.2.2.2.1 u.2.2.2.2.2.2.2.2.2.2.2.1 u.2.2.2.2.2.2.2.2.2.2.2.2.1 u.2.2.2.2.2.2.2.2.2.2.2.2.2.1 u.2.2.2.2.2.2.2.2.2.2.2.2.2.2.1 u.2.2.2.2.2.2.2.2.2.2.2.2.2.2.2.1 u.2.2.2.2.2.2.2.2.2.2.2.2.2.2.2.2.1 u.2.2.2.2.2.2.2.2.2.2.2.2.2.2.2.2.2.1 u.2.2.2.2.2.2.2.2.2.2.2.2.2.2.2.2.2.2.1 u.2.2.2.2.2.2.2.2.2.2.2.2.2.2.2.2.2.2.2.1 u.2.2.2.2.2.2.2.2.2.2.2.2.2.2.2.2.2.2.2.2.1 u.2.2.2.2.2.2.2.2.2.2.2.2.2.2.2.2.2.2.2.2.2.1 u.2.2.2.2.2.2.2.2.2.2.2.2.2.2.2.2.2.2.2.2.2.2.1 u.2.2.2.2.2.2.2.2.2.2.2.2.2.2.2.2.2.2.2.2.2.2.2.1 u.2.2.2.2.2.2.2.2.2.2.2.2.2.2.2.2.2.2.2.2.2.2.2.2.1 u.2.2.2.2.2.2.2.2.2.2.2.2.2.2.2.2.2.2.2.2.2.2.2.2.2.1 u.2.2.2.2.2.2.2.2.2.2.2.2.2.2.2.2.2.2.2.2.2.2.2.2.2.2.1 u.2.2.2.2.2.2.2.2.2.2.2.2.2.2.2.2.2.2.2.2.2.2.2.2.2.2.2.1 u.2.2.2.2.2.2.2.2.2.2.2.2.2.2.2.2.2.2.2.2.2.2.2.2.2.2.2.2 := by
  refine loop_m (σ := Nat × St1) (fun k s => wL_law_23 (fun r => r = 1) L xs x2 kc ks k (nI s.1) s.2.1 s.2.2.1 s.2.2.2.1 s.2.2.2.2.1 s.2.2.2.2.2.1 s.2.2.2.2.2.2.1 s.2.2.2.2.2.2.2.1 s.2.2.2.2.2.2.2.2.1 s.2.2.2.2.2.2.2.2.2.1 s.2.2.2.2.2.2.2.2.2.2.1 s.2.2.2.2.2.2.2.2.2.2.2.1 s.2.2.2.2.2.2.2.2.2.2.2.2.1 s.2.2.2.2.2.2.2.2.2.2.2.2.2.1 s.2.2.2.2.2.2.2.2.2.2.2.2.2.2.1 s.2.2.2.2.2.2.2.2.2.2.2.2.2.2.2.1 s.2.2.2.2.2.2.2.2.2.2.2.2.2.2.2.2.1 s.2.2.2.2.2.2.2.2.2.2.2.2.2.2.2.2.2.1 s.2.2.2.2.2.2.2.2.2.2.2.2.2.2.2.2.2.2.1 s.2.2.2.2.2.2.2.2.2.2.2.2.2.2.2.2.2.2.2.1 s.2.2.2.2.2.2.2.2.2.2.2.2.2.2.2.2.2.2.2.2.1 s.2.2.2.2.2.2.2.2.2.2.2.2.2.2.2.2.2.2.2.2.2.1 s.2.2.2.2.2.2.2.2.2.2.2.2.2.2.2.2.2.2.2.2.2.2.1 s.2.2.2.2.2.2.2.2.2.2.2.2.2.2.2.2.2.2.2.2.2.2.2.1 s.2.2.2.2.2.2.2.2.2.2.2.2.2.2.2.2.2.2.2.2.2.2.2.2.1 s.2.2.2.2.2.2.2.2.2.2.2.2.2.2.2.2.2.2.2.2.2.2.2.2.2.1 s.2.2.2.2.2.2.2.2.2.2.2.2.2.2.2.2.2.2.2.2.2.2.2.2.2.2.1 s.2.2.2.2.2.2.2.2.2.2.2.2.2.2.2.2.2.2.2.2.2.2.2.2.2.2.2.1 s.2.2.2.2.2.2.2.2.2.2.2.2.2.2.2.2.2.2.2.2.2.2.2.2.2.2.2.2.1 s.2.2.2.2.2.2.2.2.2.2.2.2.2.2.2.2.2.2.2.2.2.2.2.2.2.2.2.2.2) (fun s => s.1 ≤ 300 ∧ ∃ n p dp, tw_B n p dp s.2) (fun s => 301 - s.1) ?_ (1, u) ⟨by dsimp only; omega, n, p, dp, h⟩
  intro k ⟨i, u⟩ ⟨hi, n, p, dp, hB⟩ hw
  dsimp only at hi hB hw ⊢
  have hB' := hB
  obtain ⟨c, l, rs, rm, a1, a2, a3, a4, a5, a6, a7, a8, a9, a10, a11, a12, a13, a14, a15, a16, a17, a18, a19, a20, a21, a22, a23, a24, a25⟩ := u
  obtain ⟨T, hc, _⟩ := hB'
  have hn := T.2.1
  have hn0 := T.1
  dsimp only
  refine pk_le L (i + 1) (fun z => ?_) (fun z => ?_) rfl (nI_1 i)
  · obtain ⟨j, hj, ej⟩ := pk_andE x2 (m := 31) 5 (by decide)
    obtain ⟨k', hk, ek⟩ := pk_andE (x2 >>> ((5 : Int32) &&& 31)) (m := 31) 5 (by decide)
    unfold wpX_nodes
    dsimp only
    rw [ej, ek]
    have c0 : ¬ c = 0 := by rw [hc]; exact nI_ne0 hn0 (by omega)
    refine ⟨c0, nm_r (e' := nI (j % n)) (by rw [hc]; exact pk_rem (by omega) hn0 (by omega)) ⟨c0, nm_r (e' := nI (k' % n)) (by rw [hc]; exact pk_rem (by omega) hn0 (by omega)) ?_⟩⟩
    have q := tw_law85 (L := L) (kc := kc) (ks := ks) (xs := xs) hB T (Nat.mod_lt j hn0) (Nat.mod_lt k' hn0)
    rw [← hc] at q
    exact q
  · refine ⟨pk_in i L (by omega), pk_in (i + 1) L (by omega) (nI_1 i), ?_⟩
    refine tw_turn hB (fun r n' p' dp' u' hu' => ?_)
    obtain ⟨c_x, l_x, rs_x, rm_x, a1_x, a2_x, a3_x, a4_x, a5_x, a6_x, a7_x, a8_x, a9_x, a10_x, a11_x, a12_x, a13_x, a14_x, a15_x, a16_x, a17_x, a18_x, a19_x, a20_x, a21_x, a22_x, a23_x, a24_x, a25_x⟩ := u'
    refine nm_r (e' := nI (i + 2)) (nI_add i 2) ?_
    exact hw (i + 2, (c_x, l_x, rs_x, rm_x, a1_x, a2_x, a3_x, a4_x, a5_x, a6_x, a7_x, a8_x, a9_x, a10_x, a11_x, a12_x, a13_x, a14_x, a15_x, a16_x, a17_x, a18_x, a19_x, a20_x, a21_x, a22_x, a23_x, a24_x, a25_x)) ⟨by dsimp only; omega, n', p', dp', hu'⟩ (by dsimp only; omega)
theorem i_vc (xs : Nat → Int32) (L : Nat) (hL : L ≤ 260) : wpL_law (fun r => r = 1) L xs := by
  have h0 : tw_B 1 (fun _ => 0) (fun _ => 0) ((1, 0, 0, 0, upd (fun _ => 0) 0 (-1), (fun _ => 0), (fun _ => 0), (fun _ => 0), (fun _ => 0), (fun _ => 0), (fun _ => 0), (fun _ => 0), (fun _ => 0), (fun _ => 0), (fun _ => 0), (fun _ => 0), (fun _ => 0), (fun _ => 0), (fun _ => 0), (fun _ => 0), (fun _ => 0), (fun _ => 0), (fun _ => 0), (fun _ => 0), (fun _ => 0), (fun _ => 0), (fun _ => 0), (fun _ => 0), (fun _ => 0)) : St1) :=
    ⟨⟨by omega, by omega, rfl, fun v v0 hv => absurd hv (by omega)⟩, rfl, fun v v0 hv => absurd hv (by omega), Or.inl rfl⟩
  refine ⟨25, 1881, by omega, by omega, ?_⟩
  unfold wpX_init
  dsimp only
  refine ⟨by omega, by omega, by omega, by omega, by omega, by omega, by omega, by omega, by omega, by omega, by omega, by omega, by omega, by omega, by omega, by omega, by omega, by omega, by omega, by omega, by omega, by omega, by omega, by omega, by omega, by omega, by omega, by omega, by omega, by omega, by omega, by omega, by omega, by omega, by omega, by omega, by omega, by omega, by omega, by omega, by omega, by omega, by omega, by omega, by omega, by omega, by omega, by omega, by omega, by omega, nm_e ?_⟩
  refine pk_le L 0 (fun z => tw_law23 hL h0) (fun z => ⟨pk_in 0 L z, nm_e (tw_law23 hL h0)⟩)
end
