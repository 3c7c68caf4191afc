section
/-! places i * 6 + j -/
theorem tc_ix (i j : Nat) : nI i * 6 + nI j = nI (i * 6 + j) := by
  rw [show (6 : Int32) = nI 6 from rfl, pk_mul, nI_add]
theorem tc_in {i j : Nat} (hi : i < 6) (hj : j < 6) : vp_in (nI i * 6 + nI j) 36 := by
  rw [tc_ix]
  exact vp_in_nI (by omega) (by omega)
theorem tc_cl {i j : Nat} (hi : i < 6) (hj : j < 6) : (nI i * 6 + nI j).toNatClampNeg = i * 6 + j := by
  rw [tc_ix]
  exact nI_clamp (by omega)
theorem tc_su {a : Nat → Int32} {i j r c : Nat} {x : Int32} (hj : j < 6) (hc : c < 6) : upd a (i * 6 + j) x (r * 6 + c) = if r = i ∧ c = j then x else a (r * 6 + c) := by
  by_cases h : r = i ∧ c = j
  · rw [if_pos h, h.1, h.2, pk_us]
  · rw [if_neg h, pk_un (by omega)]
theorem tc_sl {a : Nat → Int64} {i j r c : Nat} {x : Int64} (hj : j < 6) (hc : c < 6) : vp_updL a (i * 6 + j) x (r * 6 + c) = if r = i ∧ c = j then x else a (r * 6 + c) := by
  by_cases h : r = i ∧ c = j
  · rw [if_pos h, h.1, h.2, pk_uLs]
  · rw [if_neg h, pk_uLn (by omega)]
theorem tc_u0 {f : Nat → Int64} {k : Nat} : vp_updL f k (f k - 0) = f := by
  funext j
  by_cases h : j = k
  · rw [h, pk_uLs, Int64.sub_zero]
  · rw [pk_uLn h]
theorem tc_u1 {f : Nat → Int64} {k : Nat} : vp_updL f k (f k + 0) = f := by
  funext j
  by_cases h : j = k
  · rw [h, pk_uLs, Int64.add_zero]
  · rw [pk_uLn h]
theorem tc_l0 : (nI 0).toInt64 = 0 := by decide
/-! the picture of edges and modes: x at the two places of one pair, 0 elsewhere -/
def tc_w (p q x i j : Nat) : Nat := if (i = p ∧ j = q) ∨ (i = q ∧ j = p) then x else 0
def tc_P (a : Nat → Int32) (p q x : Nat) : Prop := ∀ i j, i < 6 → j < 6 → a (i * 6 + j) = nI (tc_w p q x i j)
theorem tc_w_sym (p q x i j : Nat) : tc_w q p x i j = tc_w p q x i j := by
  unfold tc_w
  (repeat' split) <;> first | rfl | omega
theorem tc_w_pq (p q x : Nat) : tc_w p q x p q = x := if_pos (Or.inl ⟨rfl, rfl⟩)
theorem tc_w_qp (p q x : Nat) : tc_w p q x q p = x := if_pos (Or.inr ⟨rfl, rfl⟩)
theorem tc_w_le (p q x i j : Nat) : tc_w p q x i j ≤ x := by
  unfold tc_w
  split <;> omega
theorem tc_w_no {p q x i j : Nat} (h : ¬ ((i = p ∧ j = q) ∨ (i = q ∧ j = p))) : tc_w p q x i j = 0 := if_neg h
theorem tc_w_zero (p q i j : Nat) : tc_w p q 0 i j = 0 := by
  unfold tc_w
  split <;> rfl
theorem tc_P_sym {a : Nat → Int32} {p q x : Nat} (h : tc_P a p q x) : tc_P a q p x := fun i j hi hj => by
  rw [h i j hi hj, tc_w_sym]
theorem tc_P_zero (p q : Nat) : tc_P (fun _ => 0) p q 0 := fun i j _ _ => by
  rw [tc_w_zero]
  rfl
theorem tc_P_set {a : Nat → Int32} {p q x y : Nat} (hp : p < 6) (hq : q < 6) (h : tc_P a p q x) : tc_P (upd (upd a (p * 6 + q) (nI y)) (q * 6 + p) (nI y)) p q y := by
  intro i j hi hj
  rw [tc_su hp hj, tc_su hq hj]
  by_cases c1 : i = q ∧ j = p
  · rw [if_pos c1, c1.1, c1.2, tc_w_qp]
  · rw [if_neg c1]
    by_cases c2 : i = p ∧ j = q
    · rw [if_pos c2, c2.1, c2.2, tc_w_pq]
    · have hn : ¬ ((i = p ∧ j = q) ∨ (i = q ∧ j = p)) := by omega
      rw [if_neg c2, h i j hi hj, tc_w_no hn, tc_w_no hn]
end
section
section
variable {post : St2 → Prop} {w sz : Int32} {a1 a2 a3 a6 : Nat → Int32} {a4 a5 : Nat → Int64} {N lo hi e m : Nat}
/-! mergeGroups at the pair itself, its groups still single -/
theorem tc_merge76 (hN : N ≤ 6) (hl : lo < hi) (hh : hi < N) (g : ∀ x, x < N → a3 x = nI x)
    (H : ∀ b3 : Nat → Int32, (∀ x, x < N → b3 x = nI (if x = hi then lo else x)) → post (nI N, w, sz, a1, a2, b3, a4, a5, a6)) :
    ∃ n, wX_mergeGroups_76 post (nI lo) (nI hi) (nI N) w sz n 0 a1 a2 a3 a4 a5 a6 := by
  refine pk_loop (fun n i s => wX_mergeGroups_76 post (nI lo) (nI hi) (nI N) w sz n (nI i) a1 a2 s a4 a5 a6) (fun i s => ∀ x, x < N → s x = nI (if x = hi ∧ x < i then lo else x)) N 0 a3 (by omega) ?_ ?_ ?_
  · intro x hx
    rw [g x hx, if_neg (by omega)]
  · intro n s h
    refine pk_le N N (fun _ => H s (fun x hx => ?_)) (fun z => absurd z (by omega))
    rw [h x hx]
    exact congrArg nI (by (repeat' split) <;> first | rfl | omega)
  · intro n i s hi' h hw
    refine pk_le N i (fun z => absurd z (by omega)) (fun _ => ⟨pk_in i 6 (by omega), ?_⟩)
    rw [nI_clamp (show i < 2 ^ 31 by omega)]
    have hs : s i = nI i := by rw [h i hi', if_neg (by omega)]
    refine pk_eq i hi (fun z => ⟨pk_in i 6 (by omega), nm_e (nm_r (nI_1 i) (hw _ ?_))⟩) (fun z => nm_r (nI_1 i) (hw _ ?_)) hs
    · intro x hx
      by_cases ex : x = i
      · rw [ex, pk_us, if_pos (by omega)]
      · rw [pk_un ex, h x hx]
        exact congrArg nI (by (repeat' split) <;> first | rfl | omega)
    · intro x hx
      rw [h x hx]
      exact congrArg nI (by (repeat' split) <;> first | rfl | omega)
theorem tc_merge (hN : N ≤ 6) (hl : lo < hi) (hh : hi < N) (g : ∀ x, x < N → a3 x = nI x) (hE : a1 (lo * 6 + hi) = nI e)
    (H : ∀ b3 : Nat → Int32, (∀ x, x < N → b3 x = nI (if x = hi then lo else x)) → post (nI N, w * nI e, sz, a1, a2, b3, a4, a5, a6)) :
    wpX_mergeGroups post (nI N, w, sz, a1, a2, a3, a4, a5, a6) (nI lo) (nI hi) := by
  unfold wpX_mergeGroups
  refine ⟨pk_in lo 6 (by omega), nm_r (e' := nI lo) (by rw [nI_clamp (by omega), g lo (by omega)]) ⟨pk_in hi 6 (by omega), nm_r (e' := nI hi) (by rw [nI_clamp (by omega), g hi hh]) (pk_eq lo hi (fun z => absurd z (by omega)) (fun _ => ⟨tc_in (by omega) (by omega), ?_⟩))⟩⟩
  rw [tc_cl (show lo < 6 by omega) (show hi < 6 by omega), hE]
  exact nm_e (pk_le hi lo (fun z => absurd z (by omega)) (fun _ => pk_le hi lo (fun z => absurd z (by omega)) (fun _ => tc_merge76 hN hl hh g H)))
/-! contract: d says whether the pair has been merged -/
def tc_C (N lo hi e : Nat) (d : Prop) (s : Int32 × (Nat → Int32)) : Prop :=
  (d → s.1 = nI e ∧ ∀ x, x < N → s.2 x = nI (if x = hi then lo else x)) ∧ (¬ d → s.1 = 1 ∧ ∀ x, x < N → s.2 x = nI x)
theorem tc_C_iff {d d' : Prop} {s : Int32 × (Nat → Int32)} (i : d ↔ d') (h : tc_C N lo hi e d s) : tc_C N lo hi e d' s :=
  ⟨fun z => h.1 (i.mpr z), fun z => h.2 (fun y => z (i.mp y))⟩
theorem tc_con42 {J : Int32 → Int32 → Int32 → Int32 → (Nat → Int32) → (Nat → Int32) → (Nat → Int32) → (Nat → Int64) → (Nat → Int64) → (Nat → Int32) → Prop} {i : Nat} {s0 : Int32 × (Nat → Int32)}
    (hN : N ≤ 6) (hl : lo < hi) (hh : hi < N) (hm : m ≤ 2) (hi' : i < N) (p1 : tc_P a1 lo hi e) (p2 : tc_P a2 lo hi m) (h0 : tc_C N lo hi e (m = 1 ∧ lo < i) s0)
    (HJ : ∀ s : Int32 × (Nat → Int32), tc_C N lo hi e (m = 1 ∧ lo < i + 1) s → J (nI (i + 1)) (nI N) s.1 sz a1 a2 s.2 a4 a5 a6) :
    ∃ n, wX_contract_42 post J (nI i) n (nI (i + 1)) (nI N) s0.1 sz a1 a2 s0.2 a4 a5 a6 := by
  refine pk_loop (σ := Int32 × (Nat → Int32)) (fun n j s => wX_contract_42 post J (nI i) n (nI j) (nI N) s.1 sz a1 a2 s.2 a4 a5 a6) (fun j s => i < j ∧ tc_C N lo hi e (m = 1 ∧ (lo < i ∨ (lo = i ∧ hi < j))) s) N (i + 1) s0 (by omega) ⟨by omega, tc_C_iff (by omega) h0⟩ ?_ ?_
  · intro n s h
    exact pk_le N N (fun _ => nm_r (nI_1 i) (HJ s (tc_C_iff (by omega) h.2))) (fun z => absurd z (by omega))
  · intro n j s hj h hw
    obtain ⟨hij, h⟩ := h
    refine pk_le N j (fun z => absurd z (by omega)) (fun _ => ⟨tc_in (by omega) (by omega), ?_⟩)
    rw [tc_cl (show i < 6 by omega) (show j < 6 by omega), p2 i j (by omega) (by omega)]
    refine pk_eq (tc_w lo hi m i j) 1 (fun z => ?_) (fun z => nm_r (nI_1 j) (hw s ⟨by omega, tc_C_iff ?_ h⟩)) rfl rfl (by have := tc_w_le lo hi m i j; omega)
    · have hz : i = lo ∧ j = hi ∧ m = 1 := by
        unfold tc_w at z
        split at z <;> omega
      obtain ⟨z1, z2, z3⟩ := hz
      subst z1 z2 z3
      obtain ⟨hw1, hg⟩ := h.2 (by omega)
      refine tc_merge hN hl hh hg (e := e) (by rw [p1 i j (by omega) (by omega), tc_w_pq]) (fun b3 hb => nm_r (nI_1 j) (hw (s.1 * nI e, b3) ⟨by omega, fun _ => ⟨?_, hb⟩, fun z => absurd z (by omega)⟩))
      show s.1 * nI e = nI e
      rw [hw1, Int32.one_mul]
    · have hz : ¬ (m = 1 ∧ i = lo ∧ j = hi) := by
        intro y
        obtain ⟨y1, y2, y3⟩ := y
        apply z
        rw [y1, y2, y3, tc_w_pq]
      omega
theorem tc_con30 {s0 : Int32 × (Nat → Int32)} (hN : N ≤ 6) (hl : lo < hi) (hh : hi < N) (hm : m ≤ 2) (p1 : tc_P a1 lo hi e) (p2 : tc_P a2 lo hi m) (h0 : tc_C N lo hi e (m = 1 ∧ lo < 0) s0)
    (H : ∀ s : Int32 × (Nat → Int32), tc_C N lo hi e (m = 1) s → post (nI N, s.1, sz, a1, a2, s.2, a4, a5, a6)) :
    ∃ n, wX_contract_30 post n 0 (nI N) s0.1 sz a1 a2 s0.2 a4 a5 a6 := by
  refine pk_loop (σ := Int32 × (Nat → Int32)) (fun n i s => wX_contract_30 post n (nI i) (nI N) s.1 sz a1 a2 s.2 a4 a5 a6) (fun i s => tc_C N lo hi e (m = 1 ∧ lo < i) s) N 0 s0 (by omega) h0 ?_ ?_
  · intro n s h
    exact pk_le N N (fun _ => H s (tc_C_iff (by omega) h)) (fun z => absurd z (by omega))
  · intro n i s hi' h hw
    exact pk_le N i (fun z => absurd z (by omega)) (fun _ => nm_r (nI_1 i) (tc_con42 hN hl hh hm hi' p1 p2 h (fun s' h' => hw s' h')))
theorem tc_contract (hN : N ≤ 6) (hl : lo < hi) (hh : hi < N) (hm : m ≤ 2) (p1 : tc_P a1 lo hi e) (p2 : tc_P a2 lo hi m)
    (H : ∀ s : Int32 × (Nat → Int32), tc_C N lo hi e (m = 1) s → post (nI N, s.1, sz, a1, a2, s.2, a4, a5, a6)) :
    wpX_contract post (nI N, w, sz, a1, a2, a3, a4, a5, a6) := by
  unfold wpX_contract
  refine pk_loop (fun n i s => wX_contract_7 post (nI N) 1 sz n (nI i) a1 a2 s a4 a5 a6) (fun i s => ∀ x, x < i → s x = nI x) N 0 a3 (by omega) (fun x hx => absurd hx (by omega)) ?_ ?_
  · intro n s h
    refine pk_le N N (fun _ => ?_) (fun z => absurd z (by omega))
    exact tc_con30 (s0 := (1, s)) hN hl hh hm p1 p2 ⟨fun z => absurd z (by omega), fun _ => ⟨rfl, h⟩⟩ H
  · intro n i s hi' h hw
    refine pk_le N i (fun z => absurd z (by omega)) (fun _ => ⟨pk_in i 6 (by omega), nm_e (nm_r (nI_1 i) (hw _ ?_))⟩)
    intro x hx
    rw [nI_clamp (show i < 2 ^ 31 by omega)]
    by_cases ex : x = i
    · rw [ex, pk_us]
    · rw [pk_un ex, h x (by omega)]
/-! contractWithout v: no pair that must be used is left -/
theorem tc_cwo42 {J : Int32 → Int32 → Int32 → Int32 → (Nat → Int32) → (Nat → Int32) → (Nat → Int32) → (Nat → Int64) → (Nat → Int64) → (Nat → Int32) → Prop} {i v : Nat}
    (hN : N ≤ 6) (hv : v < N) (hi' : i < N) (p2 : ∀ x y, x < 6 → y < 6 → x ≠ v → y ≠ v → ¬ a2 (x * 6 + y) = 1)
    (HJ : J (nI (i + 1)) (nI N) w sz a1 a2 a3 a4 a5 a6) :
    ∃ n, wX_contractWithout_42 post J (nI v) (nI i) n (nI (i + 1)) (nI N) w sz a1 a2 a3 a4 a5 a6 := by
  refine pk_loop (σ := Unit) (fun n j _ => wX_contractWithout_42 post J (nI v) (nI i) n (nI j) (nI N) w sz a1 a2 a3 a4 a5 a6) (fun _ _ => True) N (i + 1) () (by omega) trivial ?_ ?_
  · intro n s h
    exact pk_le N N (fun _ => nm_r (nI_1 i) HJ) (fun z => absurd z (by omega))
  · intro n j s hj h hw
    refine pk_le N j (fun z => absurd z (by omega)) (fun _ => pk_eq i v (fun _ => nm_r (nI_1 j) (hw () trivial)) (fun z1 => pk_eq j v (fun _ => nm_r (nI_1 j) (hw () trivial)) (fun z2 => ⟨tc_in (by omega) (by omega), br_f ?_ (nm_r (nI_1 j) (hw () trivial))⟩)))
    rw [tc_cl (by omega) (by omega)]
    exact p2 i j (by omega) (by omega) z1 z2
theorem tc_cwo {v : Nat} (hN : N ≤ 6) (hv : v < N) (p2 : ∀ x y, x < 6 → y < 6 → x ≠ v → y ≠ v → ¬ a2 (x * 6 + y) = 1)
    (H : ∀ b3 : Nat → Int32, (∀ x, x < N → b3 x = nI x) → post (nI N, 1, sz, a1, a2, b3, a4, a5, a6)) :
    wpX_contractWithout post (nI N, w, sz, a1, a2, a3, a4, a5, a6) (nI v) := by
  unfold wpX_contractWithout
  refine pk_loop (fun n i s => wX_contractWithout_7 post (nI v) (nI N) 1 sz n (nI i) a1 a2 s a4 a5 a6) (fun i s => ∀ x, x < i → s x = nI x) N 0 a3 (by omega) (fun x hx => absurd hx (by omega)) ?_ ?_
  · intro n s h
    refine pk_le N N (fun _ => ?_) (fun z => absurd z (by omega))
    refine pk_loop (σ := Unit) (fun n i _ => wX_contractWithout_30 post (nI v) n (nI i) (nI N) 1 sz a1 a2 s a4 a5 a6) (fun _ _ => True) N 0 () (by omega) trivial ?_ ?_
    · intro n' _ _
      exact pk_le N N (fun _ => H s h) (fun z => absurd z (by omega))
    · intro n' i _ hi' _ hw
      exact pk_le N i (fun z => absurd z (by omega)) (fun _ => nm_r (nI_1 i) (tc_cwo42 hN hv hi' p2 (hw () trivial)))
  · intro n i s hi' h hw
    refine pk_le N i (fun z => absurd z (by omega)) (fun _ => ⟨pk_in i 6 (by omega), nm_e (nm_r (nI_1 i) (hw _ ?_))⟩)
    intro x hx
    rw [nI_clamp (show i < 2 ^ 31 by omega)]
    by_cases ex : x = i
    · rw [ex, pk_us]
    · rw [pk_un ex, h x (by omega)]
end
end
section
/-! the degree matrix: full (tc_F), and with the places ahead of (i, j) gone through (tc_A) -/
def tc_row (E : Int64) (p q c : Nat) : Int64 := if c = p then E else if c = q then -E else 0
def tc_F (E : Int64) (p q r c : Nat) : Int64 := if r = p then tc_row E p q c else if r = q then tc_row E q p c else 0
def tc_A (E : Int64) (p q i j r c : Nat) : Int64 :=
  if r = p ∧ (p < i ∨ (p = i ∧ q < j)) then tc_row E p q c else if r = q ∧ (q < i ∨ (q = i ∧ p < j)) then tc_row E q p c else 0
theorem tc_row_z (p q c : Nat) : tc_row 0 p q c = 0 := by
  unfold tc_row
  (repeat' split) <;> rfl
theorem tc_A_z (p q i j r c : Nat) : tc_A 0 p q i j r c = 0 := by
  unfold tc_A
  rw [tc_row_z, tc_row_z]
  (repeat' split) <;> rfl
theorem tc_F_z (p q r c : Nat) : tc_F 0 p q r c = 0 := by
  unfold tc_F
  rw [tc_row_z, tc_row_z]
  (repeat' split) <;> rfl
theorem tc_A_next {E : Int64} {p q i j : Nat} (r c : Nat) (h : E = 0 ∨ ¬ ((i = p ∧ j = q) ∨ (i = q ∧ j = p))) : tc_A E p q i (j + 1) r c = tc_A E p q i j r c := by
  rcases h with h | h
  · rw [h, tc_A_z, tc_A_z]
  · unfold tc_A
    (repeat' split) <;> first | rfl | omega
theorem tc_A_0 (E : Int64) (p q r c : Nat) : tc_A E p q 0 0 r c = 0 := by
  unfold tc_A
  rw [if_neg (by omega), if_neg (by omega)]
theorem tc_A_up {E : Int64} {p q i N : Nat} (r c : Nat) (hp : p < N) (hq : q < N) : tc_A E p q i N r c = tc_A E p q (i + 1) 0 r c := by
  unfold tc_A
  (repeat' split) <;> first | rfl | omega
theorem tc_A_F {E : Int64} {p q N : Nat} (r c : Nat) (hp : p < N) (hq : q < N) : tc_A E p q N 0 r c = tc_F E p q r c := by
  unfold tc_A tc_F
  (repeat' split) <;> first | rfl | omega
theorem tc_A_in {E : Int64} {p q i j : Nat} (c : Nat) (hpq : p ≠ q) (h : (i = p ∧ j = q) ∨ (i = q ∧ j = p)) : tc_A E p q i j i c = 0 := by
  unfold tc_A
  rw [if_neg (by omega), if_neg (by omega)]
theorem tc_A_out {E : Int64} {p q i j : Nat} (r c : Nat) (hr : r ≠ i) : tc_A E p q i (j + 1) r c = tc_A E p q i j r c := by
  unfold tc_A
  (repeat' split) <;> first | rfl | omega
theorem tc_A_pair {E : Int64} {p q i j : Nat} (c : Nat) (hpq : p ≠ q) (h : (i = p ∧ j = q) ∨ (i = q ∧ j = p)) : tc_A E p q i (j + 1) i c = tc_row E i j c := by
  unfold tc_A
  rcases h with ⟨h1, h2⟩ | ⟨h1, h2⟩
  · subst h1 h2
    rw [if_pos (by omega)]
  · subst h1 h2
    rw [if_neg (by omega), if_pos (by omega)]
section
variable {post : St2 → Prop} {w sz : Int32} {a1 a2 a3 a6 : Nat → Int32} {a4 a5 : Nat → Int64} {N p q e m : Nat} {G : Nat → Nat}
theorem tc_fill33 {J : Int32 → (Nat → Int32) → (Nat → Int32) → (Nat → Int32) → (Nat → Int64) → (Nat → Int64) → (Nat → Int32) → Prop} {E : Int64} {i : Nat} {s0 : Nat → Int64}
    (hN : N ≤ 6) (hp : p < N) (hq : q < N) (hpq : p ≠ q) (he : e ≤ 3) (hm : m ≤ 2) (hi : i < N) (p1 : tc_P a1 p q e) (p2 : tc_P a2 p q m)
    (hg : ∀ x, x < N → a3 x = nI (G x)) (hG : ∀ x, x < N → G x < 6) (hid : m = 0 → ∀ x, x < N → G x = x) (hE : E = (nI (if m = 0 then e else 0)).toInt64)
    (h0 : ∀ r c, r < 6 → c < 6 → s0 (r * 6 + c) = tc_A E p q i 0 r c)
    (HJ : ∀ s : Nat → Int64, (∀ r c, r < 6 → c < 6 → s (r * 6 + c) = tc_A E p q (i + 1) 0 r c) → J (nI (i + 1)) a1 a2 a3 s a5 a6) :
    ∃ n, wX_fillMatrix_33 post J (nI i) (nI N) w sz n 0 a1 a2 a3 s0 a5 a6 := by
  have hE0 : m ≠ 0 → E = 0 := fun z => by rw [hE, if_neg z, tc_l0]
  refine pk_loop (fun n j s => wX_fillMatrix_33 post J (nI i) (nI N) w sz n (nI j) a1 a2 a3 s a5 a6) (fun j s => ∀ r c, r < 6 → c < 6 → s (r * 6 + c) = tc_A E p q i j r c) N 0 s0 (by omega) h0 ?_ ?_
  · intro n s h
    refine pk_le N N (fun _ => nm_r (nI_1 i) (HJ s (fun r c hr hc => ?_))) (fun z => absurd z (by omega))
    rw [h r c hr hc, tc_A_up r c hp hq]
  · intro n j s hj h hw
    have gi := hG i hi
    have gj := hG j hj
    have same : (E = 0 ∨ ¬ ((i = p ∧ j = q) ∨ (i = q ∧ j = p))) → ∀ r c, r < 6 → c < 6 → s (r * 6 + c) = tc_A E p q i (j + 1) r c := fun hz r c hr hc => by
      rw [tc_A_next r c hz, h r c hr hc]
    refine pk_le N j (fun z => absurd z (by omega)) (fun _ => ⟨pk_in i 6 (by omega), nm_r (e' := nI (G i)) (by rw [nI_clamp (by omega), hg i hi]) ⟨pk_in j 6 (by omega), nm_r (e' := nI (G j)) (by rw [nI_clamp (by omega), hg j hj]) (pk_eq i j (fun z => nm_r (nI_1 j) (hw s (same (Or.inr (by omega))))) (fun z => pk_eq (G i) (G j) (fun z2 => nm_r (nI_1 j) (hw s (same (Or.inl ?_)))) (fun z2 => ⟨tc_in (by omega) (by omega), ?_⟩)))⟩⟩)
    · apply hE0
      intro m0
      rw [hid m0 i hi, hid m0 j hj] at z2
      exact z z2
    · rw [tc_cl (show i < 6 by omega) (show j < 6 by omega), p2 i j (by omega) (by omega)]
      refine pk_eq (tc_w p q m i j) 0 (fun z3 => ?_) (fun z3 => nm_r (nI_1 j) (hw s (same (Or.inl ?_)))) rfl rfl (by have := tc_w_le p q m i j; omega)
      · refine ⟨tc_in gi gj, tc_in (by omega) (by omega), tc_in gi gj, ?_⟩
        rw [tc_cl gi gj, p1 i j (by omega) (by omega)]
        by_cases hz : (i = p ∧ j = q) ∨ (i = q ∧ j = p)
        · have m0 : m = 0 := by
            unfold tc_w at z3
            rw [if_pos hz] at z3
            exact z3
          have ew : (nI (tc_w p q e i j)).toInt64 = E := by
            rw [hE, if_pos m0]
            unfold tc_w
            rw [if_pos hz]
          rw [ew, hid m0 i hi, hid m0 j hj]
          refine nm_e ⟨tc_in (by omega) (by omega), tc_in (by omega) (by omega), tc_in (by omega) (by omega), nm_e (nm_r (nI_1 j) (hw _ ?_))⟩
          intro r c hr hc
          rw [tc_cl (show i < 6 by omega) (show i < 6 by omega), tc_sl (by omega) hc, tc_sl (by omega) hc, tc_sl (by omega) (by omega), h i i (by omega) (by omega), h i j (by omega) (by omega), h r c hr hc, tc_A_in i hpq hz, tc_A_in j hpq hz]
          rw [if_neg (show ¬ (i = i ∧ i = j) by omega), Int64.zero_add, Int64.zero_sub]
          by_cases er : r = i
          · subst er
            rw [tc_A_pair c hpq hz, tc_A_in c hpq hz]
            unfold tc_row
            (repeat' split) <;> first | rfl | omega
          · rw [tc_A_out r c er, if_neg (by omega), if_neg (by omega)]
        · have ew : (nI (tc_w p q e i j)).toInt64 = 0 := by rw [tc_w_no hz, tc_l0]
          rw [ew, tc_u0]
          refine nm_e ⟨tc_in gi gi, tc_in (by omega) (by omega), tc_in gi gi, nm_r (tc_u1 (k := (nI (G i) * 6 + nI (G i)).toNatClampNeg)) (nm_r (nI_1 j) (hw s (same (Or.inr hz))))⟩
      · apply hE0
        intro m0
        apply z3
        rw [m0, tc_w_zero]
theorem tc_fill23 {E : Int64} {s0 : Nat → Int64} (hN : N ≤ 6) (hp : p < N) (hq : q < N) (hpq : p ≠ q) (he : e ≤ 3) (hm : m ≤ 2) (p1 : tc_P a1 p q e) (p2 : tc_P a2 p q m)
    (hg : ∀ x, x < N → a3 x = nI (G x)) (hG : ∀ x, x < N → G x < 6) (hid : m = 0 → ∀ x, x < N → G x = x) (hE : E = (nI (if m = 0 then e else 0)).toInt64)
    (h0 : ∀ k, k < 36 → s0 k = 0)
    (H : ∀ b4 : Nat → Int64, (∀ r c, r < 6 → c < 6 → b4 (r * 6 + c) = tc_F E p q r c) → post (nI N, w, sz, a1, a2, a3, b4, a5, a6)) :
    ∃ n, wX_fillMatrix_23 post (nI N) w sz n 0 a1 a2 a3 s0 a5 a6 := by
  refine pk_loop (fun n i s => wX_fillMatrix_23 post (nI N) w sz n (nI i) a1 a2 a3 s a5 a6) (fun i s => ∀ r c, r < 6 → c < 6 → s (r * 6 + c) = tc_A E p q i 0 r c) N 0 s0 (by omega) ?_ ?_ ?_
  · intro r c hr hc
    rw [h0 _ (by omega), tc_A_0]
  · intro n s h
    refine pk_le N N (fun _ => H s (fun r c hr hc => ?_)) (fun z => absurd z (by omega))
    rw [h r c hr hc, tc_A_F r c hp hq]
  · intro n i s hi h hw
    exact pk_le N i (fun z => absurd z (by omega)) (fun _ => tc_fill33 hN hp hq hpq he hm hi p1 p2 hg hG hid hE h (fun s' h' => hw s' h'))
theorem tc_fill {E : Int64} (hN : N ≤ 6) (hp : p < N) (hq : q < N) (hpq : p ≠ q) (he : e ≤ 3) (hm : m ≤ 2) (p1 : tc_P a1 p q e) (p2 : tc_P a2 p q m)
    (hg : ∀ x, x < N → a3 x = nI (G x)) (hG : ∀ x, x < N → G x < 6) (hid : m = 0 → ∀ x, x < N → G x = x) (hE : E = (nI (if m = 0 then e else 0)).toInt64)
    (H : ∀ b4 : Nat → Int64, (∀ r c, r < 6 → c < 6 → b4 (r * 6 + c) = tc_F E p q r c) → post (nI N, w, sz, a1, a2, a3, b4, a5, a6)) :
    wpX_fillMatrix post (nI N, w, sz, a1, a2, a3, a4, a5, a6) := by
  unfold wpX_fillMatrix
  refine pk_loop (fun n i s => wX_fillMatrix_2 post (nI N) w sz n (nI i) a1 a2 a3 s a5 a6) (fun i s => ∀ k, k < i → s k = 0) 36 0 a4 (by omega) (fun x hx => absurd hx (by omega)) ?_ ?_
  · intro n s h
    exact pk_le 36 36 (fun _ => tc_fill23 hN hp hq hpq he hm p1 p2 hg hG hid hE h H) (fun z => absurd z (by omega))
  · intro n i s hi h hw
    refine pk_le 36 i (fun z => absurd z (by omega)) (fun _ => ⟨pk_in i 36 (by omega), nm_e (nm_r (nI_1 i) (hw _ ?_))⟩)
    intro x hx
    rw [nI_clamp (show i < 2 ^ 31 by omega)]
    by_cases ex : x = i
    · rw [ex, pk_uLs]
    · rw [pk_uLn ex, h x (by omega)]
end
end
section
section
variable {post : St2 → Prop} {w sz : Int32} {a1 a2 a3 a6 : Nat → Int32} {a4 a5 : Nat → Int64} {N : Nat} {G : Nat → Nat}
/-! dropFromMatrix -/
theorem tc_drop {v : Nat} (hN : N ≤ 6) (hv : v < N)
    (H : ∀ b4 : Nat → Int64, (∀ r c, r < 6 → c < 6 → b4 (r * 6 + c) = if r = c ∧ r ≠ v ∧ r < N then a4 (r * 6 + r) + a4 (r * 6 + v) else a4 (r * 6 + c)) → post (nI N, w, sz, a1, a2, a3, b4, a5, a6)) :
    wpX_dropFromMatrix post (nI N, w, sz, a1, a2, a3, a4, a5, a6) (nI v) := by
  unfold wpX_dropFromMatrix
  refine pk_loop (fun n i s => wX_dropFromMatrix_2 post (nI v) (nI N) w sz n (nI i) a1 a2 a3 s a5 a6) (fun i s => ∀ r c, r < 6 → c < 6 → s (r * 6 + c) = if r = c ∧ r ≠ v ∧ r < i then a4 (r * 6 + r) + a4 (r * 6 + v) else a4 (r * 6 + c)) N 0 a4 (by omega) ?_ ?_ ?_
  · intro r c hr hc
    rw [if_neg (by omega)]
  · intro n s h
    exact pk_le N N (fun _ => H s h) (fun z => absurd z (by omega))
  · intro n i s hi h hw
    refine pk_le N i (fun z => absurd z (by omega)) (fun _ => pk_eq i v (fun z => nm_r (nI_1 i) (hw s ?_)) (fun z => ⟨tc_in (by omega) (by omega), tc_in (by omega) (by omega), tc_in (by omega) (by omega), nm_e (nm_r (nI_1 i) (hw _ ?_))⟩))
    · intro r c hr hc
      rw [h r c hr hc]
      (repeat' split) <;> first | rfl | omega
    · intro r c hr hc
      rw [tc_cl (show i < 6 by omega) (show i < 6 by omega), tc_cl (show i < 6 by omega) (show v < 6 by omega), tc_sl (by omega) hc, h i i (by omega) (by omega), h i v (by omega) (by omega), h r c hr hc, if_neg (show ¬ (i = i ∧ i ≠ v ∧ i < i) by omega), if_neg (show ¬ (i = v ∧ i ≠ v ∧ i < i) by omega)]
      by_cases er : r = i ∧ c = i
      · rw [if_pos er, if_pos (by omega), er.1]
      · rw [if_neg er]
        (repeat' split) <;> first | rfl | omega
/-! cutOut: the rows kept -/
def tc_K (G : Nat → Nat) (x y : Nat) : Nat → Bool := fun r => decide (G r = r) && decide (r ≠ x) && decide (r ≠ y)
def tc_l (G : Nat → Nat) (x y N : Nat) : List Nat := (List.range N).filter (tc_K G x y)
theorem tc_l_t {x y i : Nat} (h : G i = i) (hx : i ≠ x) (hy : i ≠ y) : tc_l G x y (i + 1) = tc_l G x y i ++ [i] := by
  have hk : tc_K G x y i = true := by simp [tc_K, h, hx, hy]
  unfold tc_l
  rw [List.range_succ, List.filter_append]
  simp [hk]
theorem tc_l_f {x y i : Nat} (h : ¬ (G i = i ∧ i ≠ x ∧ i ≠ y)) : tc_l G x y (i + 1) = tc_l G x y i := by
  have hk : tc_K G x y i = false := by
    by_cases h1 : G i = i
    · by_cases h2 : i = x
      · simp [tc_K, h2]
      · by_cases h3 : i = y
        · simp [tc_K, h3]
        · exact absurd ⟨h1, h2, h3⟩ h
    · simp [tc_K, h1]
  unfold tc_l
  rw [List.range_succ, List.filter_append]
  simp [hk]
theorem tc_l_len (G : Nat → Nat) (x y i : Nat) : (tc_l G x y i).length ≤ i := by
  unfold tc_l
  exact Nat.le_trans (List.length_filter_le _ _) (by rw [List.length_range]; omega)
theorem tc_l_mem {x y N k : Nat} (h : k < (tc_l G x y N).length) : (tc_l G x y N).getD k 0 < N ∧ (tc_l G x y N).getD k 0 ≠ y := by
  have e : (tc_l G x y N).getD k 0 = (tc_l G x y N)[k] := by simp [h]
  have hm : (tc_l G x y N)[k] ∈ tc_l G x y N := List.getElem_mem h
  rw [e]
  unfold tc_l at hm ⊢
  rw [List.mem_filter, List.mem_range] at hm
  refine ⟨hm.1, ?_⟩
  have h2 := hm.2
  simp only [tc_K, Bool.and_eq_true, decide_eq_true_eq] at h2
  exact h2.2
theorem tc_cut74 {J : Int32 → (Nat → Int32) → (Nat → Int32) → (Nat → Int32) → (Nat → Int64) → (Nat → Int64) → (Nat → Int32) → Prop} {len i : Nat} {l : Nat → Nat} {s0 : Nat → Int64}
    (hlen : len ≤ 6) (hi : i < len) (h6 : ∀ k, k < len → a6 k = nI (l k)) (hl : ∀ k, k < len → l k < 6)
    (h0 : ∀ r c, r < i → c < len → s0 (r * 6 + c) = a4 (l r * 6 + l c))
    (HJ : ∀ s : Nat → Int64, (∀ r c, r < i + 1 → c < len → s (r * 6 + c) = a4 (l r * 6 + l c)) → J (nI (i + 1)) a1 a2 a3 a4 s a6) :
    ∃ n, wX_cutOut_74 post J (nI i) (nI N) w (nI len) n 0 a1 a2 a3 a4 s0 a6 := by
  refine pk_loop (fun n j s => wX_cutOut_74 post J (nI i) (nI N) w (nI len) n (nI j) a1 a2 a3 a4 s a6) (fun j s => (∀ r c, r < i → c < len → s (r * 6 + c) = a4 (l r * 6 + l c)) ∧ (∀ c, c < j → s (i * 6 + c) = a4 (l i * 6 + l c))) len 0 s0 (by omega) ⟨h0, fun c hc => absurd hc (by omega)⟩ ?_ ?_
  · intro n s h
    refine pk_le len len (fun _ => nm_r (nI_1 i) (HJ s (fun r c hr hc => ?_))) (fun z => absurd z (by omega))
    by_cases er : r = i
    · rw [er]
      exact h.2 c hc
    · exact h.1 r c (by omega) hc
  · intro n j s hj h hw
    have li := hl i hi
    have lj := hl j hj
    refine pk_le len j (fun z => absurd z (by omega)) (fun _ => ⟨pk_in i 6 (by omega), pk_in j 6 (by omega), ?_⟩)
    rw [nI_clamp (show i < 2 ^ 31 by omega), nI_clamp (show j < 2 ^ 31 by omega), h6 i hi, h6 j hj]
    refine ⟨tc_in li lj, tc_in (by omega) (by omega), nm_e (nm_r (nI_1 j) (hw _ ?_))⟩
    rw [tc_cl (show i < 6 by omega) (show j < 6 by omega), tc_cl li lj]
    refine ⟨fun r c hr hc => ?_, fun c hc => ?_⟩
    · rw [tc_sl (by omega) (by omega), if_neg (by omega)]
      exact h.1 r c hr hc
    · rw [tc_sl (by omega) (by omega)]
      by_cases ec : c = j
      · rw [if_pos ⟨rfl, ec⟩, ec]
      · rw [if_neg (by omega)]
        exact h.2 c (by omega)
theorem tc_cut63 {len : Nat} {l : Nat → Nat} {s0 : Nat → Int64}
    (hlen : len ≤ 6) (h6 : ∀ k, k < len → a6 k = nI (l k)) (hl : ∀ k, k < len → l k < 6)
    (H : ∀ b5 : Nat → Int64, (∀ r c, r < len → c < len → b5 (r * 6 + c) = a4 (l r * 6 + l c)) → post (nI N, w, nI len, a1, a2, a3, a4, b5, a6)) :
    ∃ n, wX_cutOut_63 post (nI N) w (nI len) n 0 a1 a2 a3 a4 s0 a6 := by
  refine pk_loop (fun n i s => wX_cutOut_63 post (nI N) w (nI len) n (nI i) a1 a2 a3 a4 s a6) (fun i s => ∀ r c, r < i → c < len → s (r * 6 + c) = a4 (l r * 6 + l c)) len 0 s0 (by omega) (fun r c hr => absurd hr (by omega)) ?_ ?_
  · intro n s h
    exact pk_le len len (fun _ => H s h) (fun z => absurd z (by omega))
  · intro n i s hi h hw
    exact pk_le len i (fun z => absurd z (by omega)) (fun _ => tc_cut74 hlen hi h6 hl h (fun s' h' => hw s' h'))
theorem tc_cut {x y : Nat} (hN : N ≤ 6) (hx : x < 6) (hy : y < 6) (hg : ∀ r, r < N → a3 r = nI (G r)) (hG : ∀ r, r < N → G r < 6)
    (H : ∀ (b5 : Nat → Int64) (b6 : Nat → Int32), (∀ r c, r < (tc_l G x y N).length → c < (tc_l G x y N).length → b5 (r * 6 + c) = a4 ((tc_l G x y N).getD r 0 * 6 + (tc_l G x y N).getD c 0)) → post (nI N, w, nI (tc_l G x y N).length, a1, a2, a3, a4, b5, b6)) :
    wpX_cutOut post (nI N, w, sz, a1, a2, a3, a4, a5, a6) (nI x) (nI y) := by
  unfold wpX_cutOut
  refine pk_loop (σ := Int32 × (Nat → Int32)) (fun n i s => wX_cutOut_7 post (nI x) (nI y) (nI N) w n (nI i) s.1 a1 a2 a3 a4 a5 s.2) (fun i s => s.1 = nI (tc_l G x y i).length ∧ ∀ k, k < (tc_l G x y i).length → s.2 k = nI ((tc_l G x y i).getD k 0)) N 0 (nI 0, a6) (by omega) ⟨rfl, fun k hk => absurd hk (by have := tc_l_len G x y 0; omega)⟩ ?_ ?_
  · intro n s h
    obtain ⟨s1, s2⟩ := s
    obtain ⟨h1, h2⟩ := h
    dsimp only at h1 h2
    subst h1
    have hlen := tc_l_len G x y N
    refine pk_le N N (fun _ => ?_) (fun z => absurd z (by omega))
    exact tc_cut63 (l := fun k => (tc_l G x y N).getD k 0) (by omega) h2 (fun k hk => by have := (tc_l_mem hk).1; omega) (fun b5 hb => H b5 s2 hb)
  · intro n i s hi h hw
    obtain ⟨s1, s2⟩ := s
    obtain ⟨h1, h2⟩ := h
    dsimp only at h1 h2
    subst h1
    have hlen := tc_l_len G x y i
    have gi := hG i hi
    have same : ¬ (G i = i ∧ i ≠ x ∧ i ≠ y) → nI (tc_l G x y i).length = nI (tc_l G x y (i + 1)).length ∧ ∀ k, k < (tc_l G x y (i + 1)).length → s2 k = nI ((tc_l G x y (i + 1)).getD k 0) := fun hz => by
      rw [tc_l_f hz]
      exact ⟨rfl, h2⟩
    refine pk_le N i (fun z => absurd z (by omega)) (fun _ => ⟨pk_in i 6 (by omega), ?_⟩)
    rw [nI_clamp (show i < 2 ^ 31 by omega), hg i hi]
    refine pk_eq (G i) i (fun z => pk_eq i x (fun zx => nm_r (nI_1 i) (hw (_, _) (same (by omega)))) (fun zx => pk_eq i y (fun zy => nm_r (nI_1 i) (hw (_, _) (same (by omega)))) (fun zy => ⟨pk_in (tc_l G x y i).length 6 (by omega), nm_r (e' := upd s2 (tc_l G x y i).length (nI i)) (by rw [nI_clamp (by omega)]) (nm_r (nI_1 _) (nm_r (nI_1 i) (hw (nI ((tc_l G x y i).length + 1), upd s2 (tc_l G x y i).length (nI i)) ?_)))⟩))) (fun z => nm_r (nI_1 i) (hw (_, _) (same (by omega))))
    rw [tc_l_t z zx zy, List.length_append]
    refine ⟨rfl, fun k hk => ?_⟩
    show upd s2 (tc_l G x y i).length (nI i) k = _
    have hk' : k < (tc_l G x y i).length + 1 := hk
    by_cases ek : k = (tc_l G x y i).length
    · rw [ek, pk_us]
      simp
    · rw [pk_un ek, h2 k (by omega)]
      have hk2 : k < (tc_l G x y i).length := by omega
      congr 1
      simp [List.getElem?_append_left hk2]
end
/-! the lists that are met -/
theorem tc_l_id : ∀ N, N < 7 → 2 ≤ N → (tc_l (fun r => r) 0 0 N).length = N - 1 ∧ ∀ k, k < N - 1 → (tc_l (fun r => r) 0 0 N).getD k 0 = k + 1 := by decide +kernel
theorem tc_l_mg : ∀ N, N < 7 → ∀ hi, hi < N → ∀ lo, lo < hi → (tc_l (fun r => if r = hi then lo else r) 0 0 N).length = N - 2 := by decide +kernel
theorem tc_l_hg : ∀ N, N < 7 → 2 ≤ N → ∀ v, v < N → (tc_l (fun r => r) (if v = 0 then 1 else 0) v N).length = N - 2 := by decide +kernel
end
section
section
variable {w nn : Int32} {a1 a2 a3 a6 : Nat → Int32} {a4 a5 : Nat → Int64} {len : Nat}
/-! pivotRow -/
theorem tc_piv0 {post : Int32 → Prop} {k : Nat} (hlen : len ≤ 6) (hk : k < len) (h : ∀ r, k ≤ r → r < len → a5 (r * 6 + k) = 0) (H : post (-1)) :
    wpX_pivotRow post (nn, w, nI len, a1, a2, a3, a4, a5, a6) (nI k) := by
  unfold wpX_pivotRow
  refine pk_loop (σ := Unit) (fun n i _ => wX_pivotRow_2 post (nI k) nn w (nI len) a1 a2 a3 a4 a5 a6 n (nI i)) (fun i _ => k ≤ i) len k () (by omega) (Nat.le_refl k) ?_ ?_
  · intro n _ _
    exact pk_le len len (fun _ => H) (fun z => absurd z (by omega))
  · intro n i _ hi h1 hw
    refine pk_le len i (fun z => absurd z (by omega)) (fun _ => ⟨tc_in (by omega) (by omega), br_t ?_ (nm_r (nI_1 i) (hw () (by omega)))⟩)
    rw [tc_cl (by omega) (by omega)]
    exact h i h1 hi
theorem tc_piv1 {post : Int32 → Prop} {k : Nat} (hlen : len ≤ 6) (hk : k < len) (h : ¬ a5 (k * 6 + k) = 0) (H : post (nI k)) :
    wpX_pivotRow post (nn, w, nI len, a1, a2, a3, a4, a5, a6) (nI k) := by
  unfold wpX_pivotRow
  refine ⟨1, pk_le len k (fun z => absurd z (by omega)) (fun _ => ⟨tc_in (by omega) (by omega), br_f ?_ H⟩)⟩
  rw [tc_cl (by omega) (by omega)]
  exact h
/-! eliminate with row 0, before = 1, where every minor with the pivot vanishes -/
def tc_B (a : Nat → Int64) (len i j r c : Nat) : Int64 := if 1 ≤ r ∧ 1 ≤ c ∧ c < len ∧ (r < i ∨ (r = i ∧ c < j)) then 0 else a (r * 6 + c)
theorem tc_elim32 {post : St2 → Prop} {J : Int32 → (Nat → Int32) → (Nat → Int32) → (Nat → Int32) → (Nat → Int64) → (Nat → Int64) → (Nat → Int32) → Prop} {i : Nat} {p : Int64} {s0 : Nat → Int64}
    (hlen : len ≤ 6) (h1 : 1 ≤ len) (hi1 : 1 ≤ i) (hi : i < len)
    (hz : ∀ r c, 1 ≤ r → 1 ≤ c → r < len → c < len → a5 (r * 6 + c) * p - a5 (r * 6 + 0) * a5 (0 * 6 + c) = 0)
    (h0 : ∀ r c, r < 6 → c < 6 → s0 (r * 6 + c) = tc_B a5 len i 1 r c)
    (HJ : ∀ s : Nat → Int64, (∀ r c, r < 6 → c < 6 → s (r * 6 + c) = tc_B a5 len (i + 1) 1 r c) → J (nI (i + 1)) a1 a2 a3 a4 s a6) :
    ∃ n, wX_eliminate_32 post J (nI 0) 1 p (nI i) nn w (nI len) n (nI 1) a1 a2 a3 a4 s0 a6 := by
  refine pk_loop (fun n j s => wX_eliminate_32 post J (nI 0) 1 p (nI i) nn w (nI len) n (nI j) a1 a2 a3 a4 s a6) (fun j s => 1 ≤ j ∧ ∀ r c, r < 6 → c < 6 → s (r * 6 + c) = tc_B a5 len i j r c) len 1 s0 h1 ⟨Nat.le_refl 1, h0⟩ ?_ ?_
  · intro n s h
    refine pk_le len len (fun _ => nm_r (nI_1 i) (HJ s (fun r c hr hc => ?_))) (fun z => absurd z (by omega))
    rw [h.2 r c hr hc]
    unfold tc_B
    (repeat' split) <;> first | rfl | omega
  · intro n j s hj h hw
    obtain ⟨hj1, h⟩ := h
    refine pk_le len j (fun z => absurd z (by omega)) (fun _ => ⟨tc_in (by omega) (by omega), tc_in (by omega) (by omega), tc_in (by omega) (by omega), ?_⟩)
    rw [tc_cl (show i < 6 by omega) (show j < 6 by omega), tc_cl (show i < 6 by omega) (show 0 < 6 by omega), tc_cl (show 0 < 6 by omega) (show j < 6 by omega), h i j (by omega) (by omega), h i 0 (by omega) (by omega), h 0 j (by omega) (by omega)]
    have e1 : tc_B a5 len i j i j = a5 (i * 6 + j) := if_neg (by omega)
    have e2 : tc_B a5 len i j i 0 = a5 (i * 6 + 0) := if_neg (by omega)
    have e3 : tc_B a5 len i j 0 j = a5 (0 * 6 + j) := if_neg (by omega)
    rw [e1, e2, e3, hz i j hi1 hj1 hi hj]
    refine nm_e (br_f (by decide) ⟨by decide, tc_in (by omega) (by omega), nm_e (nm_r (nI_1 j) (hw _ ⟨by omega, ?_⟩))⟩)
    intro r c hr hc
    rw [Int64.zero_div, tc_sl (by omega) hc, h r c hr hc]
    unfold tc_B
    (repeat' split) <;> first | rfl | omega
theorem tc_elim {post : St2 → Prop} (hlen : len ≤ 6) (h1 : 1 ≤ len)
    (hz : ∀ r c, 1 ≤ r → 1 ≤ c → r < len → c < len → a5 (r * 6 + c) * a5 (0 * 6 + 0) - a5 (r * 6 + 0) * a5 (0 * 6 + c) = 0)
    (H : ∀ b5 : Nat → Int64, (∀ r c, r < 6 → c < 6 → b5 (r * 6 + c) = tc_B a5 len len 1 r c) → post (nn, w, nI len, a1, a2, a3, a4, b5, a6)) :
    wpX_eliminate post (nn, w, nI len, a1, a2, a3, a4, a5, a6) (nI 0) 1 := by
  unfold wpX_eliminate
  refine ⟨tc_in (by omega) (by omega), nm_r (e' := a5 (0 * 6 + 0)) (by rw [tc_cl (by omega) (by omega)]) (nm_r (nI_1 0) ?_)⟩
  refine pk_loop (fun n i s => wX_eliminate_18 post (nI 0) 1 (a5 (0 * 6 + 0)) nn w (nI len) n (nI i) a1 a2 a3 a4 s a6) (fun i s => 1 ≤ i ∧ ∀ r c, r < 6 → c < 6 → s (r * 6 + c) = tc_B a5 len i 1 r c) len 1 a5 h1 ⟨Nat.le_refl 1, ?_⟩ ?_ ?_
  · intro r c hr hc
    unfold tc_B
    rw [if_neg (by omega)]
  · intro n s h
    exact pk_le len len (fun _ => H s h.2) (fun z => absurd z (by omega))
  · intro n i s hi h hw
    exact pk_le len i (fun z => absurd z (by omega)) (fun _ => nm_r (nI_1 0) (tc_elim32 hlen h1 h.1 hi hz h.2 (fun s' h' => hw s' ⟨by omega, h'⟩)))
/-! determinant -/
theorem tc_det0 {post : Int64 → St2 → Prop} (h0 : len = 0) (H : post 1 (nn, w, nI len, a1, a2, a3, a4, a5, a6)) : wpX_determinant post (nn, w, nI len, a1, a2, a3, a4, a5, a6) := by
  unfold wpX_determinant
  refine ⟨1, pk_le len 0 (fun _ => ?_) (fun z => absurd z (by omega))⟩
  rw [Int64.mul_one]
  exact H
theorem tc_detz {post : Int64 → St2 → Prop} (hlen : len ≤ 6) (h1 : 1 ≤ len) (h : ∀ r, r < len → a5 (r * 6 + 0) = 0) (H : post 0 (nn, w, nI len, a1, a2, a3, a4, a5, a6)) : wpX_determinant post (nn, w, nI len, a1, a2, a3, a4, a5, a6) := by
  unfold wpX_determinant
  exact ⟨1, pk_le len 0 (fun z => absurd z (by omega)) (fun _ => tc_piv0 (k := 0) hlen (by omega) (fun r _ hr => h r hr) (br_f (by decide) H))⟩
theorem tc_det49 {post : Int64 → St2 → Prop} {J : Int64 → Int64 → Int32 → Int32 → Int32 → Int32 → (Nat → Int32) → (Nat → Int32) → (Nat → Int32) → (Nat → Int64) → (Nat → Int64) → (Nat → Int32) → Prop} {x : Int64}
    (hlen : len ≤ 6) (h1 : 1 ≤ len)
    (hz : ∀ r c, 1 ≤ r → 1 ≤ c → r < len → c < len → a5 (r * 6 + c) * a5 (0 * 6 + 0) - a5 (r * 6 + 0) * a5 (0 * 6 + c) = 0)
    (HJ : ∀ b5 : Nat → Int64, (∀ r c, r < 6 → c < 6 → b5 (r * 6 + c) = tc_B a5 len len 1 r c) → J x (a5 (0 * 6 + 0)) (nI 1) nn w (nI len) a1 a2 a3 a4 b5 a6) :
    wX_determinant_49 post J x 1 (nI 0) nn w (nI len) a1 a2 a3 a4 a5 a6 := by
  unfold wX_determinant_49
  refine tc_elim hlen h1 hz (fun b5 hb => ⟨tc_in (by omega) (by omega), nm_r (e' := a5 (0 * 6 + 0)) ?_ (nm_r (nI_1 0) (HJ b5 hb))⟩)
  rw [tc_cl (by omega) (by omega), hb 0 0 (by omega) (by omega)]
  exact if_neg (by omega)
theorem tc_det1 {post : Int64 → St2 → Prop} (h1 : len = 1) (h : ¬ a5 (0 * 6 + 0) = 0) (H : ∀ b5, post (a5 (0 * 6 + 0)) (nn, w, nI len, a1, a2, a3, a4, b5, a6)) : wpX_determinant post (nn, w, nI len, a1, a2, a3, a4, a5, a6) := by
  unfold wpX_determinant
  refine ⟨2, pk_le len 0 (fun z => absurd z (by omega)) (fun _ => tc_piv1 (k := 0) (by omega) (by omega) h (br_t (by decide) (br_t rfl (tc_det49 (by omega) (by omega) (fun r c hr hc hr' hc' => absurd hr (by omega)) (fun b5 hb => pk_le len 1 (fun _ => ?_) (fun z => absurd z (by omega)))))))⟩
  rw [Int64.one_mul]
  exact H b5
theorem tc_detq {post : Int64 → St2 → Prop} (hlen : len ≤ 6) (h1 : 2 ≤ len) (h : ¬ a5 (0 * 6 + 0) = 0)
    (hz : ∀ r c, 1 ≤ r → 1 ≤ c → r < len → c < len → a5 (r * 6 + c) * a5 (0 * 6 + 0) - a5 (r * 6 + 0) * a5 (0 * 6 + c) = 0)
    (H : ∀ b5, post 0 (nn, w, nI len, a1, a2, a3, a4, b5, a6)) : wpX_determinant post (nn, w, nI len, a1, a2, a3, a4, a5, a6) := by
  unfold wpX_determinant
  refine ⟨2, pk_le len 0 (fun z => absurd z (by omega)) (fun _ => tc_piv1 (k := 0) (by omega) (by omega) h (br_t (by decide) (br_t rfl (tc_det49 (by omega) (by omega) hz (fun b5 hb => pk_le len 1 (fun z => absurd z (by omega)) (fun _ => tc_piv0 (k := 1) hlen (by omega) (fun r hr1 hr => ?_) (br_f (by decide) (H b5))))))))⟩
  rw [hb r 1 (by omega) (by omega)]
  exact if_pos (by omega)
end
end
section
def tc_T (N e m : Nat) : Nat := if N = 2 ∧ m ≠ 2 then e else 0
theorem tc_r1 {e : Nat} (he : e ≤ 3) : ((nI e).toInt64 * 1).toInt32 = nI e := by
  rw [Int64.mul_one, nI_l (by omega), lN_i]
theorem tc_r2 {e : Nat} (he : e ≤ 3) : ((1 : Int32).toInt64 * (nI e).toInt64).toInt32 = nI e := by
  rw [show (1 : Int32).toInt64 = 1 from by decide, Int64.one_mul, nI_l (by omega), lN_i]
theorem tc_r3 {e : Nat} (he : e ≤ 3) : ((1 : Int32).toInt64 * 1 * (nI e).toInt64).toInt32 = nI e := by
  rw [Int64.mul_one]
  exact tc_r2 he
theorem tc_e0 {e : Nat} (he : e ≤ 3) (h : (nI e).toInt64 = 0) : e = 0 := by
  rw [nI_l (by omega), show (0 : Int64) = lN 0 from rfl, lN_eq (by omega) (by omega)] at h
  exact h
theorem tc_sq (E : Int64) : E * E - -E * -E = 0 := by
  rw [Int64.neg_mul_neg, Int64.sub_self]
section
variable {post : Int32 → St2 → Prop} {w sz : Int32} {a1 a2 a3 a6 : Nat → Int32} {a4 a5 : Nat → Int64} {N lo hi e m U V : Nat}
/-! the pair isn't merged: the matrix without row and column 0 -/
theorem tc_detF {pd : Int64 → St2 → Prop} {E : Int64} (hN : N ≤ 6) (hl : lo < hi) (hh : hi < N)
    (h5 : ∀ r c, r < N - 1 → c < N - 1 → a5 (r * 6 + c) = tc_F E lo hi (r + 1) (c + 1))
    (H : ∀ b5, pd (if N = 2 then E else 0) (nI N, w, nI (N - 1), a1, a2, a3, a4, b5, a6)) : wpX_determinant pd (nI N, w, nI (N - 1), a1, a2, a3, a4, a5, a6) := by
  have h00 := h5 0 0 (by omega) (by omega)
  by_cases hE : E = 0
  · subst hE
    have H' := H a5
    rw [show (if N = 2 then (0 : Int64) else 0) = 0 by split <;> rfl] at H'
    exact tc_detz (by omega) (by omega) (fun r hr => by rw [h5 r 0 hr (by omega), tc_F_z]) H'
  · by_cases h1 : lo = 1 ∨ hi = 1
    · have hp : a5 (0 * 6 + 0) = E := by
        rw [h00]
        unfold tc_F tc_row
        (repeat' split) <;> first | rfl | omega
      by_cases h2 : N = 2
      · have H' := H
        rw [if_pos h2] at H'
        exact tc_det1 (by omega) (by rw [hp]; exact hE) (fun b5 => by rw [hp]; exact H' b5)
      · have H' := H
        rw [if_neg h2] at H'
        refine tc_detq (by omega) (by omega) (by rw [hp]; exact hE) (fun r c hr hc hr' hc' => ?_) H'
        rw [hp, h5 r c hr' hc', h5 r 0 hr' (by omega), h5 0 c (by omega) hc']
        unfold tc_F tc_row
        (repeat' split) <;> first | omega | (simp only [Int64.zero_mul, Int64.mul_zero, Int64.sub_zero, Int64.sub_self]; done) | exact tc_sq E
    · have H' := H a5
      rw [if_neg (by omega)] at H'
      refine tc_detz (by omega) (by omega) (fun r hr => ?_) H'
      rw [h5 r 0 hr (by omega)]
      unfold tc_F tc_row
      (repeat' split) <;> first | rfl | omega
theorem tc_count (hN : N ≤ 6) (hl : lo < hi) (hh : hi < N) (he : e ≤ 3) (hm : m ≤ 2) (p1 : tc_P a1 lo hi e) (p2 : tc_P a2 lo hi m)
    (H : ∀ (w s : Int32) (b3 : Nat → Int32) (b4 b5 : Nat → Int64) (b6 : Nat → Int32), post (nI (tc_T N e m)) (nI N, w, s, a1, a2, b3, b4, b5, b6)) :
    wpX_count post (nI N, w, sz, a1, a2, a3, a4, a5, a6) := by
  unfold wpX_count
  refine tc_contract hN hl hh hm p1 p2 (fun s hC => ?_)
  obtain ⟨w', b3⟩ := s
  by_cases hm1 : m = 1
  · obtain ⟨hw, hg⟩ := hC.1 hm1
    dsimp only at hw hg
    subst hw
    refine pk_eq e 0 (fun z => ?_) (fun z => ?_)
    · have t : tc_T N e m = 0 := by
        unfold tc_T
        split <;> omega
      have h := H (nI e) sz b3 a4 a5 a6
      rw [t] at h
      exact h
    · refine tc_fill (G := fun r => if r = hi then lo else r) (E := 0) hN (by omega) hh (by omega) he hm p1 p2 hg (fun x hx => by split <;> omega) (fun z => absurd z (by omega)) (by rw [if_neg (by omega), tc_l0]) (fun b4 h4 => ?_)
      refine tc_cut (G := fun r => if r = hi then lo else r) (x := 0) (y := 0) hN (by omega) (by omega) hg (fun x hx => by split <;> omega) (fun b5 b6 h5 => ?_)
      have hlen := tc_l_mg N (by omega) hi hh lo hl
      by_cases h2 : N = 2
      · refine tc_det0 (by omega) ?_
        have t : nI (tc_T N e m) = ((nI e).toInt64 * 1).toInt32 := by
          rw [tc_r1 he]
          exact congrArg nI (if_pos ⟨h2, by omega⟩)
        have h := H (nI e) (nI (tc_l (fun r => if r = hi then lo else r) 0 0 N).length) b3 b4 b5 b6
        rw [t] at h
        exact h
      · refine tc_detz (by omega) (by omega) (fun r hr => ?_) ?_
        · rw [h5 r 0 hr (by omega), h4 _ _ (by have := (tc_l_mem hr).1; omega) (by have := (tc_l_mem (G := fun r => if r = hi then lo else r) (x := 0) (y := 0) (N := N) (k := 0) (by omega)).1; omega), tc_F_z]
        · have t : nI (tc_T N e m) = ((nI e).toInt64 * 0).toInt32 := by
            rw [Int64.mul_zero]
            exact congrArg nI (if_neg (by omega))
          have h := H (nI e) (nI (tc_l (fun r => if r = hi then lo else r) 0 0 N).length) b3 b4 b5 b6
          rw [t] at h
          exact h
  · obtain ⟨hw, hg⟩ := hC.2 hm1
    dsimp only at hw hg
    subst hw
    refine br_f (show ¬ (1 : Int32) = 0 by decide) ?_
    refine tc_fill (G := fun r => r) (E := (nI (if m = 0 then e else 0)).toInt64) hN (by omega) hh (by omega) he hm p1 p2 hg (fun x hx => by omega) (fun _ x _ => rfl) rfl (fun b4 h4 => ?_)
    refine tc_cut (G := fun r => r) (x := 0) (y := 0) hN (by omega) (by omega) hg (fun x hx => by omega) (fun b5 b6 h5 => ?_)
    obtain ⟨hlen, hget⟩ := tc_l_id N (by omega) (by omega)
    rw [hlen] at h5 ⊢
    refine tc_detF hN hl hh (E := (nI (if m = 0 then e else 0)).toInt64) (fun r c hr hc => ?_) (fun c5 => ?_)
    · rw [h5 r c hr hc, hget r hr, hget c hc, h4 (r + 1) (c + 1) (by omega) (by omega)]
    · have h := H 1 (nI (N - 1)) b3 b4 c5 b6
      have t : nI (tc_T N e m) = ((1 : Int32).toInt64 * (if N = 2 then (nI (if m = 0 then e else 0)).toInt64 else 0)).toInt32 := by
        by_cases h2 : N = 2
        · rw [if_pos h2, tc_r2 (by split <;> omega)]
          unfold tc_T
          congr 1
          (repeat' split) <;> first | rfl | omega
        · rw [if_neg h2, Int64.mul_zero]
          unfold tc_T
          rw [if_neg (by omega)]
          rfl
      rw [t] at h
      exact h
theorem tc_count' (hN : N ≤ 6) (hU : U < N) (hV : V < N) (hUV : U ≠ V) (he : e ≤ 3) (hm : m ≤ 2) (p1 : tc_P a1 U V e) (p2 : tc_P a2 U V m)
    (H : ∀ (w s : Int32) (b3 : Nat → Int32) (b4 b5 : Nat → Int64) (b6 : Nat → Int32), post (nI (tc_T N e m)) (nI N, w, s, a1, a2, b3, b4, b5, b6)) :
    wpX_count post (nI N, w, sz, a1, a2, a3, a4, a5, a6) := by
  by_cases h : U < V
  · exact tc_count hN h hV he hm p1 p2 H
  · exact tc_count hN (show V < U by omega) hU he hm (tc_P_sym p1) (tc_P_sym p2) H
theorem tc_trees (hN : N ≤ 6) (hU : U < N) (hV : V < N) (hUV : U ≠ V) (he : e ≤ 3) (hm : m ≤ 2) (p1 : tc_P a1 U V e) (p2 : tc_P a2 U V m)
    (H : ∀ (w s : Int32) (b3 : Nat → Int32) (b4 b5 : Nat → Int64) (b6 : Nat → Int32), post (nI (tc_T N e m)) (nI N, w, s, a1, a2, b3, b4, b5, b6)) :
    wpX_trees post (nI N, w, sz, a1, a2, a3, a4, a5, a6) := by
  unfold wpX_trees
  exact tc_count' hN hU hV hUV he hm p1 p2 H
end
end
section
section
variable {post : Int32 → St2 → Prop} {w sz : Int32} {a1 a2 a3 a6 : Nat → Int32} {a4 a5 : Nat → Int64} {N e m U V W : Nat}
/-! setMode, countUsing, using -/
theorem tc_setMode {ps : St2 → Prop} {nn : Int32} {x : Int32} {y : Nat} (hx : x = nI y) (hU : U < 6) (hV : V < 6) (p2 : tc_P a2 U V m)
    (H : ∀ b2 : Nat → Int32, tc_P b2 U V y → ps (nn, w, sz, a1, b2, a3, a4, a5, a6)) : wpX_setMode ps (nn, w, sz, a1, a2, a3, a4, a5, a6) (nI U) (nI V) x := by
  unfold wpX_setMode
  refine ⟨tc_in hU hV, nm_e ⟨tc_in hV hU, nm_e (H _ ?_)⟩⟩
  rw [tc_cl hU hV, tc_cl hV hU, hx]
  exact tc_P_set hU hV p2
theorem tc_badPair {ps : Int32 → Prop} (hN : N ≤ 6) (hU : U < N) (hV : V < N) (hUV : U ≠ V) (H : ps 0) : wpX_badPair ps (nI N, w, sz, a1, a2, a3, a4, a5, a6) (nI U) (nI V) := by
  unfold wpX_badPair
  exact pk_lt U 0 (fun z => absurd z (by omega)) (fun _ => pk_le N U (fun z => absurd z (by omega)) (fun _ => pk_lt V 0 (fun z => absurd z (by omega)) (fun _ => pk_le N V (fun z => absurd z (by omega)) (fun _ => pk_eq U V (fun z => absurd z hUV) (fun _ => H)))))
theorem tc_using (hN : N ≤ 6) (hU : U < N) (hV : V < N) (hUV : U ≠ V) (he : e ≤ 3) (hm : m ≤ 2) (p1 : tc_P a1 U V e) (p2 : tc_P a2 U V m)
    (H : ∀ (w s : Int32) (b2 b3 : Nat → Int32) (b4 b5 : Nat → Int64) (b6 : Nat → Int32), tc_P b2 U V m → post (nI (tc_T N e m)) (nI N, w, s, a1, b2, b3, b4, b5, b6)) :
    wpX_using post (nI N, w, sz, a1, a2, a3, a4, a5, a6) (nI U) (nI V) := by
  unfold wpX_using
  refine tc_badPair hN hU hV hUV (br_t rfl ?_)
  unfold wpX_countUsing
  refine ⟨tc_in (by omega) (by omega), nm_r (e' := nI m) (by rw [tc_cl (by omega) (by omega), p2 U V (by omega) (by omega), tc_w_pq]) (pk_eq m 2 (fun z => ?_) (fun z => ?_))⟩
  · have t : tc_T N e m = 0 := if_neg (by omega)
    have h := H w sz a2 a3 a4 a5 a6 p2
    rw [t] at h
    exact h
  · refine tc_count' hN hU hV hUV he hm p1 p2 (fun w1 s1 b3 b4 b5 b6 => ?_)
    refine pk_eq m 1 (fun _ => H w1 s1 a2 b3 b4 b5 b6 p2) (fun z1 => ?_)
    refine tc_setMode (y := 2) rfl (by omega) (by omega) p2 (fun c2 q2 => ?_)
    refine tc_count' hN hU hV hUV he (by omega) p1 q2 (fun w2 s2 d3 d4 d5 d6 => ?_)
    refine tc_setMode (y := m) rfl (by omega) (by omega) q2 (fun d2 q3 => ?_)
    have t : tc_T N e 2 = 0 := if_neg (by omega)
    have h := H w2 s2 d2 d3 d4 d5 d6 q3
    rw [t]
    show post (nI (tc_T N e m) - 0) _
    rw [Int32.sub_zero]
    exact h
/-! leaf -/
theorem tc_wU (hUV : U ≠ V) {x : Nat} (hW : W ≠ U) : tc_w U V x W U = if W = V then x else 0 := by
  unfold tc_w
  (repeat' split) <;> first | rfl | omega
theorem tc_must {ps : Int32 → Prop} (hN : N ≤ 6) (hU : U < N) (hV : V < N) (hUV : U ≠ V) (hm : m ≤ 2) (p2 : tc_P a2 U V m) (H : ps (nI (if m = 1 then 1 else 0))) :
    wpX_mustAt ps (nI N, w, sz, a1, a2, a3, a4, a5, a6) (nI U) := by
  unfold wpX_mustAt
  refine pk_loop (fun n i s => wX_mustAt_4 ps (nI U) (nI N) w sz a1 a2 a3 a4 a5 a6 n s (nI i)) (fun i s => s = nI (if m = 1 ∧ V < i then 1 else 0)) N 0 0 (by omega) ?_ ?_ ?_
  · show (0 : Int32) = _
    rw [if_neg (by omega)]
    rfl
  · intro n s h
    refine pk_le N N (fun _ => ?_) (fun z => absurd z (by omega))
    rw [h, show (if m = 1 ∧ V < N then 1 else 0) = (if m = 1 then 1 else 0) by (repeat' split) <;> first | rfl | omega]
    exact H
  · intro n i s hi h hw
    refine pk_le N i (fun z => absurd z (by omega)) (fun _ => pk_eq i U (fun z => nm_r (nI_1 i) (hw s ?_)) (fun z => ⟨tc_in (by omega) (by omega), ?_⟩))
    · show s = _
      rw [h]
      exact congrArg nI (by (repeat' split) <;> first | rfl | omega)
    · rw [tc_cl (show i < 6 by omega) (show U < 6 by omega), p2 i U (by omega) (by omega), tc_wU hUV z]
      refine pk_eq (if i = V then m else 0) 1 (fun z2 => nm_e (nm_r (nI_1 i) (hw _ ?_))) (fun z2 => nm_r (nI_1 i) (hw s ?_)) rfl rfl (by split <;> omega)
      · have hz : i = V ∧ m = 1 := by split at z2 <;> omega
        show s + 1 = _
        rw [h, nI_1]
        exact congrArg nI (by (repeat' split) <;> first | rfl | omega)
      · have hz : ¬ (i = V ∧ m = 1) := by split at z2 <;> omega
        show s = _
        rw [h]
        exact congrArg nI (by (repeat' split) <;> first | rfl | omega)
theorem tc_h92 {z0 : Int32} (hN2 : 2 ≤ N) (hN : N ≤ 6) (hU : U < N) (hV : V < N) (hUV : U ≠ V) (hW : W < N) (hWU : W ≠ U) (he : e ≤ 3) (hm : N = 2 → m ≠ 2) (p1 : tc_P a1 U V e)
    (hg : ∀ x, x < N → a3 x = nI x) (hz : z0 = nI (if U = 0 then 1 else 0)) (h4 : ∀ r c, r < N → c < N → r ≠ U → c ≠ U → a4 (r * 6 + c) = 0)
    (H : ∀ (w s : Int32) (b3 : Nat → Int32) (b4 b5 : Nat → Int64) (b6 : Nat → Int32), post (nI (if W = V then tc_T N e m else 0)) (nI N, w, s, a1, a2, b3, b4, b5, b6)) :
    wX_hanging_92 post (nI U) (nI W) z0 (nI N) 1 sz a1 a2 a3 a4 a5 a6 := by
  unfold wX_hanging_92
  subst hz
  refine tc_cut (G := fun r => r) (x := if U = 0 then 1 else 0) (y := U) hN (by split <;> omega) (by omega) hg (fun x hx => by omega) (fun b5 b6 h5 => ?_)
  have hlen := tc_l_hg N (by omega) hN2 U hU
  by_cases h2 : N = 2
  · refine tc_det0 (by omega) ⟨tc_in (by omega) (by omega), ?_⟩
    have t : nI (if W = V then tc_T N e m else 0) = ((1 : Int32).toInt64 * 1 * (nI e).toInt64).toInt32 := by
      rw [tc_r3 he, if_pos (by omega)]
      exact congrArg nI (if_pos ⟨h2, hm h2⟩)
    have h := H 1 (nI (tc_l (fun r => r) (if U = 0 then 1 else 0) U N).length) a3 a4 b5 b6
    rw [t] at h
    rw [tc_cl (by omega) (by omega), p1 W U (by omega) (by omega), tc_wU hUV hWU, if_pos (by omega)]
    exact h
  · refine tc_detz (by omega) (by omega) (fun r hr => ?_) ⟨tc_in (by omega) (by omega), ?_⟩
    · have k0 : 0 < (tc_l (fun r => r) (if U = 0 then 1 else 0) U N).length := by omega
      have hr' := tc_l_mem hr
      have h0' := tc_l_mem k0
      rw [h5 r 0 hr k0]
      exact h4 _ _ hr'.1 h0'.1 hr'.2 h0'.2
    · have t : (if W = V then tc_T N e m else 0) = 0 := by
        split
        · exact if_neg (by omega)
        · rfl
      have h := H 1 (nI (tc_l (fun r => r) (if U = 0 then 1 else 0) U N).length) a3 a4 b5 b6
      rw [t] at h
      rw [Int64.mul_zero, Int64.zero_mul]
      exact h
theorem tc_h50 (hN2 : 2 ≤ N) (hN : N ≤ 6) (hU : U < N) (hV : V < N) (hUV : U ≠ V) (hW : W < N) (hWU : W ≠ U) (he : e ≤ 3) (hm2 : m ≤ 2) (hm : N = 2 → m ≠ 2) (p1 : tc_P a1 U V e) (p2 : tc_P a2 U V m)
    (H : ∀ (w s : Int32) (b3 : Nat → Int32) (b4 b5 : Nat → Int64) (b6 : Nat → Int32), post (nI (if W = V then tc_T N e m else 0)) (nI N, w, s, a1, a2, b3, b4, b5, b6)) :
    wX_hanging_50 post (nI U) (nI W) (nI N) w sz a1 a2 a3 a4 a5 a6 := by
  unfold wX_hanging_50
  refine tc_cwo hN hU (fun x y hx hy hxU hyU => ?_) (fun b3 hg => br_f (by decide) ?_)
  · rw [p2 x y hx hy, tc_w_no (by omega)]
    decide
  · refine tc_fill (G := fun r => r) (E := (nI (if m = 0 then e else 0)).toInt64) hN hU hV hUV he hm2 p1 p2 hg (fun x hx => by omega) (fun _ x _ => rfl) rfl (fun b4 h4 => ?_)
    refine tc_drop hN hU (fun c4 k4 => ?_)
    have hz : ∀ r c, r < N → c < N → r ≠ U → c ≠ U → c4 (r * 6 + c) = 0 := by
      intro r c hr hc hrU hcU
      rw [k4 r c (by omega) (by omega), h4 r r (by omega) (by omega), h4 r U (by omega) (by omega), h4 r c (by omega) (by omega)]
      unfold tc_F tc_row
      (repeat' split) <;> first | rfl | omega | (simp only [Int64.add_zero, Int64.zero_add, Int64.add_right_neg]; done) | grind
    refine pk_eq U 0 (fun z => ?_) (fun z => ?_)
    · exact tc_h92 hN2 hN hU hV hUV hW hWU he hm p1 hg (by rw [hg 1 (by omega), if_pos z]) hz H
    · exact tc_h92 hN2 hN hU hV hUV hW hWU he hm p1 hg (by rw [hg 0 (by omega), if_neg z]) hz H
theorem tc_hang (hN2 : 2 ≤ N) (hN : N ≤ 6) (hU : U < N) (hV : V < N) (hUV : U ≠ V) (hW : W < N) (hWU : W ≠ U) (he : e ≤ 3) (hm2 : m ≤ 2) (p1 : tc_P a1 U V e) (p2 : tc_P a2 U V m)
    (H : ∀ (w s : Int32) (b3 : Nat → Int32) (b4 b5 : Nat → Int64) (b6 : Nat → Int32), post (nI (if W = V then tc_T N e m else 0)) (nI N, w, s, a1, a2, b3, b4, b5, b6)) :
    wpX_hanging post (nI N, w, sz, a1, a2, a3, a4, a5, a6) (nI U) (nI W) := by
  unfold wpX_hanging
  have zr : (if W = V then tc_T N e m else 0) = 0 → post 0 (nI N, w, sz, a1, a2, a3, a4, a5, a6) := fun t => by
    have h := H w sz a3 a4 a5 a6
    rw [t] at h
    exact h
  refine tc_must hN hU hV hUV hm2 p2 ⟨tc_in (by omega) (by omega), ?_⟩
  rw [tc_cl (show W < 6 by omega) (show U < 6 by omega), p2 W U (by omega) (by omega), tc_wU hUV hWU]
  have hk : (if W = V then m else 0) < 2 ^ 31 := by split <;> omega
  have hj : (if m = 1 then 1 else 0) < 2 ^ 31 := by split <;> omega
  refine pk_eq (if W = V then m else 0) 2 (fun z => zr ?_) (fun z => ?_) rfl rfl hk
  · by_cases hv : W = V
    · rw [if_pos hv] at z
      rw [if_pos hv]
      exact if_neg (by omega)
    · rw [if_neg hv]
  · have go : wX_hanging_50 post (nI U) (nI W) (nI N) w sz a1 a2 a3 a4 a5 a6 := tc_h50 hN2 hN hU hV hUV hW hWU he hm2 (fun h2 => by rw [if_pos (by omega)] at z; exact z) p1 p2 H
    refine pk_lt 1 (if m = 1 then 1 else 0) (fun y => absurd y (by split <;> omega)) (fun _ => ?_) rfl rfl (by omega) hj
    refine pk_eq (if m = 1 then 1 else 0) 1 (fun y => ⟨tc_in (by omega) (by omega), pk_eq (if W = V then m else 0) 1 (fun _ => go) (fun y2 => zr ?_) rfl rfl hk⟩) (fun _ => go) rfl rfl hj
    have m1 : m = 1 := by split at y <;> omega
    split
    · exact absurd (by rw [if_pos (by assumption)]; exact m1) y2
    · rfl
theorem tc_badVertex {ps : Int32 → Prop} (hN : N ≤ 6) (hU : U < N) (H : ps 0) : wpX_badVertex ps (nI N, w, sz, a1, a2, a3, a4, a5, a6) (nI U) := by
  unfold wpX_badVertex
  exact pk_lt U 0 (fun z => absurd z (by omega)) (fun _ => pk_lt U N (fun _ => H) (fun z => absurd z (by omega)))
theorem tc_leaf (hN2 : 2 ≤ N) (hN : N ≤ 6) (hU : U < N) (hV : V < N) (hUV : U ≠ V) (he : e ≤ 3) (hm2 : m ≤ 2) (p1 : tc_P a1 U V e) (p2 : tc_P a2 U V m)
    (H : ∀ (w s : Int32) (b3 : Nat → Int32) (b4 b5 : Nat → Int64) (b6 : Nat → Int32), post (nI (tc_T N e m)) (nI N, w, s, a1, a2, b3, b4, b5, b6)) :
    wpX_leaf post (nI N, w, sz, a1, a2, a3, a4, a5, a6) (nI U) := by
  unfold wpX_leaf
  refine tc_badVertex hN hU (br_t rfl ?_)
  refine pk_loop (σ := Int32 × Int32 × Int32 × (Nat → Int32) × (Nat → Int64) × (Nat → Int64) × (Nat → Int32)) (fun n i s => wX_leaf_14 post (nI U) n s.1 (nI i) (nI N) s.2.1 s.2.2.1 a1 a2 s.2.2.2.1 s.2.2.2.2.1 s.2.2.2.2.2.1 s.2.2.2.2.2.2) (fun i s => s.1 = nI (if V < i then tc_T N e m else 0)) N 0 (0, w, sz, a3, a4, a5, a6) (by omega) ?_ ?_ ?_
  · show (0 : Int32) = _
    rw [if_neg (by omega)]
    rfl
  · intro n s h
    refine pk_le N N (fun _ => ?_) (fun z => absurd z (by omega))
    rw [h, if_pos hV]
    exact H _ _ _ _ _ _
  · intro n i s hi h hw
    refine pk_le N i (fun z => absurd z (by omega)) (fun _ => pk_eq i U (fun z => nm_r (nI_1 i) (hw s ?_)) (fun z => tc_hang hN2 hN hU hV hUV hi z he hm2 p1 p2 (fun w' s' b3 b4 b5 b6 => nm_e (nm_r (nI_1 i) (hw (_, w', s', b3, b4, b5, b6) ?_)))))
    · show s.1 = _
      rw [h]
      exact congrArg nI (by (repeat' split) <;> first | rfl | omega)
    · show s.1 + _ = _
      rw [h, nI_add]
      exact congrArg nI (by (repeat' split) <;> first | rfl | omega)
end
end
section
section
variable {post : Int32 → St0 → Prop} {mc ms kc ks : Nat} {w sz : Int32} {a1 a2 a3 a6 : Nat → Int32} {a4 a5 : Nat → Int64} {N e m U V : Nat} {x1 x2 x3 x4 x9 : Int32}
/-! a good pair -/
theorem tc_216 {z0 : Int32} (hp : post 1 ()) (hN2 : 2 ≤ N) (hN : N ≤ 6) (hU : U < N) (hV : V < N) (hUV : U ≠ V) (he : e ≤ 3) (hm2 : m ≤ 2) (p1 : tc_P a1 U V e) (p2 : tc_P a2 U V m) (hz : z0 = nI (tc_T N e m)) :
    wL_lawOf_216 post mc ms (nI U) (nI V) (nI N) 0 z0 kc ks (nI N) w sz a1 a2 a3 a4 a5 a6 := by
  unfold wL_lawOf_216
  subst hz
  refine tc_trees hN hU hV hUV he hm2 p1 p2 (fun w1 s1 b3 b4 b5 b6 => br_t rfl ?_)
  refine tc_using hN hU hV hUV he hm2 p1 p2 (fun w2 s2 c2 c3 c4 c5 c6 q2 => br_t rfl ?_)
  unfold wL_lawOf_246
  refine br_t rfl ?_
  refine tc_leaf hN2 hN hU hV hUV he hm2 p1 q2 (fun w3 s3 d3 d4 d5 d6 => ?_)
  exact br_f (nI_pos (by omega)) (br_t (nI_lt hU (by omega)) (br_t rfl hp))
theorem tc_189 (hp : post 1 ()) (hN2 : 2 ≤ N) (hN : N ≤ 6) (hU : U < N) (hV : V < N) (hUV : U ≠ V) (he : e ≤ 3) (hm2 : m ≤ 2) (p1 : tc_P a1 U V e) (p2 : tc_P a2 U V m) {z : Int32}
    (h9 : x9 = 0 → x3 = nI e) (h9' : ¬ x9 = 0 → e = 0) (h4 : x4 = 2 ↔ m = 2) :
    wL_lawOf_189 post mc ms (nI U) (nI V) x3 x4 (nI N) 0 x9 z z kc ks (nI N) w sz a1 a2 a3 a4 a5 a6 := by
  unfold wL_lawOf_189
  refine br_t rfl (pk_eq N 2 (fun n2 => br_c (fun e9 => br_c (fun e4 => ?_) (fun e4 => ?_)) (fun e9 => ?_)) (fun n2 => ?_))
  · exact tc_216 hp hN2 hN hU hV hUV he hm2 p1 p2 (by unfold tc_T; rw [if_neg (fun y => y.2 (h4.mp e4))]; rfl)
  · exact tc_216 hp hN2 hN hU hV hUV he hm2 p1 p2 (by unfold tc_T; rw [if_pos ⟨n2, fun y => e4 (h4.mpr y)⟩]; exact h9 e9)
  · exact tc_216 hp hN2 hN hU hV hUV he hm2 p1 p2 (by unfold tc_T; rw [h9' e9, show (if N = 2 ∧ m ≠ 2 then 0 else 0) = 0 by split <;> rfl]; rfl)
  · exact tc_216 hp hN2 hN hU hV hUV he hm2 p1 p2 (by unfold tc_T; rw [if_neg (fun y => n2 y.1)]; rfl)
theorem tc_137 (hp : post 1 ()) (hN2 : 2 ≤ N) (hN : N ≤ 6) (hU : U < N) (hV : V < N) (hUV : U ≠ V) (he : e ≤ 3) (p1 : tc_P a1 U V e) (p2 : tc_P a2 U V 0) {z : Int32}
    (h9 : x9 = 0 → x3 = nI e) (h9' : ¬ x9 = 0 → e = 0) :
    wL_lawOf_137 post mc ms (nI U) (nI V) x3 x4 (nI N) 0 x9 z z kc ks (nI N) w sz a1 a2 a3 a4 a5 a6 := by
  unfold wL_lawOf_137
  refine br_t rfl (br_c (fun n4 => ?_) (fun n4 => br_c (fun m4 => ?_) (fun m4 => ?_)))
  · unfold wL_lawOf_153 wL_lawOf_158 wpX_mode
    refine tc_badPair hN hU hV hUV (br_t rfl (br_t n4 (br_t rfl (br_f (by decide) ?_))))
    exact tc_189 (m := 0) hp hN2 hN hU hV hUV he (by omega) p1 p2 h9 h9' ⟨fun y => absurd n4 (by rw [y]; decide), fun y => absurd y (by decide)⟩
  · obtain ⟨m, hm2, em⟩ := nI_of2 (n := 2) (by decide) n4 m4
    subst em
    unfold wL_lawOf_158 wpX_mode
    refine tc_badPair hN hU hV hUV (br_t rfl (br_f n4 (br_t m4 ⟨tc_in (by omega) (by omega), nm_r (e' := 0) ?_ (tc_setMode (y := m) rfl (by omega) (by omega) p2 (fun b2 q2 => br_t rfl (br_t rfl ?_)))⟩)))
    · rw [tc_cl (by omega) (by omega), p2 U V (by omega) (by omega), tc_w_zero]
      rfl
    · exact tc_189 (m := m) hp hN2 hN hU hV hUV he hm2 p1 q2 h9 h9' (nI_eq (b := 2) (by omega) (by omega))
  · unfold wL_lawOf_153 wL_lawOf_158 wpX_mode
    refine tc_badPair hN hU hV hUV (br_t rfl (br_f n4 (br_f m4 (br_t rfl (br_f (by decide) ?_)))))
    exact tc_189 (m := 0) hp hN2 hN hU hV hUV he (by omega) p1 p2 h9 h9' ⟨fun y => absurd (show x4 ≤ 2 by rw [y]; decide) m4, fun y => absurd y (by decide)⟩
theorem tc_edges {ps : Int32 → St2 → Prop} {x : Int32} {e' : Nat} (hx : x = nI e') (he : e' ≤ 3) (hN : N ≤ 6) (hU : U < N) (hV : V < N) (hUV : U ≠ V) (p1 : tc_P a1 U V e)
    (H : ∀ b1 : Nat → Int32, tc_P b1 U V e' → ps (nI e) (nI N, w, sz, b1, a2, a3, a4, a5, a6)) : wpX_edges ps (nI N, w, sz, a1, a2, a3, a4, a5, a6) (nI U) (nI V) x := by
  subst hx
  unfold wpX_edges
  refine tc_badPair hN hU hV hUV (br_t rfl (br_f (nI_pos (by omega)) (pk_le e' 3 (fun _ => ⟨tc_in (by omega) (by omega), nm_r (e' := nI e) ?_ ⟨tc_in (by omega) (by omega), nm_e ⟨tc_in (by omega) (by omega), nm_e (H _ ?_)⟩⟩⟩) (fun z => absurd z (by omega)))))
  · rw [tc_cl (by omega) (by omega), p1 U V (by omega) (by omega), tc_w_pq]
  · rw [tc_cl (by omega) (by omega), tc_cl (by omega) (by omega)]
    exact tc_P_set (by omega) (by omega) p1
theorem tc_good (hp : post 1 ()) (hN2 : 2 ≤ N) (hN : N ≤ 6) (hU : U < N) (hV : V < N) (hUV : U ≠ V) (p1 : tc_P a1 U V 0) (p2 : tc_P a2 U V 0) :
    wL_lawOf_63 post mc ms (nI U) (nI V) x3 x4 (nI N) 0 kc ks (nI N) w sz a1 a2 a3 a4 a5 a6 := by
  unfold wL_lawOf_63
  have many : (x3 < 0 ∨ (¬ x3 < 0 ∧ ¬ x3 ≤ 3)) → wL_lawOf_79 post mc ms (nI U) (nI V) x3 x4 (nI N) 0 1 kc ks (nI N) w sz a1 a2 a3 a4 a5 a6 := by
    intro hx
    have hE : ∀ (A B : Nat) (ps : Int32 → St2 → Prop), A < N → B < N → A ≠ B → ps (-2) (nI N, w, sz, a1, a2, a3, a4, a5, a6) → wpX_edges ps (nI N, w, sz, a1, a2, a3, a4, a5, a6) (nI A) (nI B) x3 := by
      intro A B ps hA hB hAB hps
      unfold wpX_edges
      refine tc_badPair hN hA hB hAB (br_t rfl ?_)
      rcases hx with hx | hx
      · exact br_t hx hps
      · exact br_f hx.1 (br_f hx.2 hps)
    unfold wL_lawOf_79
    refine br_t rfl (br_f (by decide) ?_)
    unfold wL_lawOf_101
    refine hE U V _ hU hV hUV (br_t rfl (hE V U _ hV hU (Ne.symm hUV) (br_f (by decide) ?_)))
    exact tc_137 (e := 0) hp hN2 hN hU hV hUV (by omega) p1 p2 (fun y => absurd y (by decide)) (fun _ => rfl)
  refine br_c (fun n3 => ?_) (fun n3 => br_c (fun m3 => ?_) (fun m3 => ?_))
  · unfold wL_lawOf_74
    exact many (Or.inl n3)
  · obtain ⟨e, he, ee⟩ := nI_of2 (n := 3) (by decide) n3 m3
    subst ee
    unfold wL_lawOf_79
    refine br_t rfl (br_t rfl ?_)
    unfold wL_lawOf_101
    refine tc_edges (e' := e) rfl he hN hU hV hUV p1 (fun b1 q1 => br_t rfl ?_)
    refine tc_edges (e' := e) rfl he hN hV hU (Ne.symm hUV) (tc_P_sym q1) (fun c1 q2 => br_t rfl ?_)
    exact tc_137 (e := e) hp hN2 hN hU hV hUV he (tc_P_sym q2) p2 (fun _ => rfl) (fun y => absurd rfl y)
  · unfold wL_lawOf_74
    exact many (Or.inr ⟨n3, m3⟩)
/-! a bad pair -/
def tc_bad (N : Nat) (x1 x2 : Int32) : Prop := x1 < 0 ∨ nI N ≤ x1 ∨ x2 < 0 ∨ nI N ≤ x2 ∨ x1 = x2
theorem tc_badP {ps : Int32 → Prop} (h : tc_bad N x1 x2) (H : ps 1) : wpX_badPair ps (nI N, w, sz, a1, a2, a3, a4, a5, a6) x1 x2 := by
  unfold wpX_badPair
  refine br_c (fun _ => H) (fun y1 => br_c (fun _ => H) (fun y2 => br_c (fun _ => H) (fun y3 => br_c (fun _ => H) (fun y4 => br_c (fun _ => H) (fun y5 => ?_)))))
  rcases h with h | h | h | h | h
  · exact absurd h y1
  · exact absurd h y2
  · exact absurd h y3
  · exact absurd h y4
  · exact absurd h y5
theorem tc_bad_sym (h : tc_bad N x1 x2) : tc_bad N x2 x1 := by
  rcases h with h | h | h | h | h
  · exact Or.inr (Or.inr (Or.inl h))
  · exact Or.inr (Or.inr (Or.inr (Or.inl h)))
  · exact Or.inl h
  · exact Or.inr (Or.inl h)
  · exact Or.inr (Or.inr (Or.inr (Or.inr h.symm)))
theorem tc_bad216 (hp : post 1 ()) (hN2 : 2 ≤ N) (hN : N ≤ 6) (hb : tc_bad N x1 x2) (p1 : ∀ p q, tc_P a1 p q 0) (p2 : ∀ p q, tc_P a2 p q 0) :
    wL_lawOf_216 post mc ms x1 x2 (nI N) 1 0 kc ks (nI N) w sz a1 a2 a3 a4 a5 a6 := by
  have t : ∀ m, nI (tc_T N 0 m) = 0 := fun m => by
    unfold tc_T
    rw [show (if N = 2 ∧ m ≠ 2 then 0 else 0) = 0 by split <;> rfl]
    rfl
  unfold wL_lawOf_216
  refine tc_trees (U := 0) (V := 1) (e := 0) (m := 0) hN (by omega) (by omega) (by omega) (by omega) (by omega) (p1 0 1) (p2 0 1) (fun w1 s1 b3 b4 b5 b6 => br_t (t 0) ?_)
  unfold wpX_using
  refine tc_badP hb (br_f (by decide) (br_f (by decide) ?_))
  unfold wL_lawOf_246
  refine br_t rfl ?_
  rcases pk_ix x1 (n := N) (by omega) with h | h | ⟨U, hU, h⟩
  · unfold wpX_leaf wpX_badVertex
    exact br_t h (br_f (by decide) (br_t h (br_t rfl hp)))
  · have n1 : ¬ x1 < 0 := fun y => by
      have := Int32.lt_of_le_of_lt h y
      exact absurd this (nI_pos (by omega))
    have n2 : ¬ x1 < nI N := Int32.not_lt.mpr h
    unfold wpX_leaf wpX_badVertex
    exact br_f n1 (br_f n2 (br_f (by decide) (br_f n1 (br_f n2 (br_t rfl hp)))))
  · subst h
    refine tc_leaf (U := U) (V := if U = 0 then 1 else 0) (e := 0) (m := 0) hN2 hN hU (by split <;> omega) (by split <;> omega) (by omega) (by omega) (p1 _ _) (p2 _ _) (fun w3 s3 d3 d4 d5 d6 => ?_)
    exact br_f (nI_pos (by omega)) (br_t (nI_lt hU (by omega)) (br_t (t 0) hp))
theorem tc_bad63 (hp : post 1 ()) (hN2 : 2 ≤ N) (hN : N ≤ 6) (hb : tc_bad N x1 x2) (p1 : ∀ p q, tc_P a1 p q 0) (p2 : ∀ p q, tc_P a2 p q 0) :
    wL_lawOf_63 post mc ms x1 x2 x3 x4 (nI N) 1 kc ks (nI N) w sz a1 a2 a3 a4 a5 a6 := by
  have g189 : wL_lawOf_189 post mc ms x1 x2 x3 x4 (nI N) 1 (-1) (-1) (-1) kc ks (nI N) w sz a1 a2 a3 a4 a5 a6 := by
    unfold wL_lawOf_189
    exact br_t rfl (br_c (fun _ => br_f (by decide) (tc_bad216 hp hN2 hN hb p1 p2)) (fun _ => tc_bad216 hp hN2 hN hb p1 p2))
  have g158 : ∀ z, wL_lawOf_158 post mc ms x1 x2 x3 x4 (nI N) 1 (-1) z kc ks (nI N) w sz a1 a2 a3 a4 a5 a6 := by
    intro z
    unfold wL_lawOf_158 wpX_mode
    exact tc_badP hb (br_f (by decide) (br_f (by decide) g189))
  have g101 : wL_lawOf_101 post mc ms x1 x2 x3 x4 (nI N) 1 (-1) kc ks (nI N) w sz a1 a2 a3 a4 a5 a6 := by
    unfold wL_lawOf_101 wpX_edges
    refine tc_badP hb (br_f (by decide) (br_t rfl (tc_badP (tc_bad_sym hb) (br_f (by decide) (br_f (by decide) ?_)))))
    unfold wL_lawOf_137
    exact br_t rfl (br_c (fun _ => g158 1) (fun _ => br_c (fun _ => g158 0) (fun _ => g158 1)))
  have g79 : ∀ z, wL_lawOf_79 post mc ms x1 x2 x3 x4 (nI N) 1 z kc ks (nI N) w sz a1 a2 a3 a4 a5 a6 := by
    intro z
    unfold wL_lawOf_79
    exact br_f (by decide) g101
  unfold wL_lawOf_63
  exact br_c (fun _ => g79 1) (fun _ => br_c (fun _ => g79 0) (fun _ => g79 1))
theorem tc_31 (hp : post 1 ()) (hN2 : 2 ≤ N) (hN : N ≤ 6) (p1 : ∀ p q, tc_P a1 p q 0) (p2 : ∀ p q, tc_P a2 p q 0) :
    wL_lawOf_31 post mc ms x1 x2 x3 x4 (nI N) kc ks (nI N) w sz a1 a2 a3 a4 a5 a6 := by
  have g : tc_bad N x1 x2 → wL_lawOf_58 post mc ms x1 x2 x3 x4 (nI N) kc ks (nI N) w sz a1 a2 a3 a4 a5 a6 := fun hb => by
    unfold wL_lawOf_58
    exact tc_bad63 hp hN2 hN hb p1 p2
  unfold wL_lawOf_31
  refine br_c (fun y => g (Or.inl y)) (fun y1 => br_c (fun y => g (Or.inr (Or.inl y))) (fun y2 => br_c (fun y => g (Or.inr (Or.inr (Or.inl y)))) (fun y3 => br_c (fun y => g (Or.inr (Or.inr (Or.inr (Or.inl y))))) (fun y4 => br_c (fun y => g (Or.inr (Or.inr (Or.inr (Or.inr y))))) (fun y5 => ?_)))))
  rcases pk_ix x1 (n := N) (by omega) with h | h | ⟨U, hU, h⟩
  · exact absurd h y1
  · exact absurd h y2
  · rcases pk_ix x2 (n := N) (by omega) with k | k | ⟨V, hV, k⟩
    · exact absurd k y3
    · exact absurd k y4
    · subst h k
      exact tc_good hp hN2 hN hU hV (fun z => y5 (by rw [z])) (p1 U V) (p2 U V)
end
theorem tc_cell {ps : Int32 → Prop} {L : Nat} {xs : Nat → Int32} {k : Nat} (hL : L ≤ 5) (hk : k < 5) (H : ∀ x, ps x) : wpL_cellAt ps L xs () (nI k) := by
  unfold wpL_cellAt
  exact pk_le L k (fun _ => H _) (fun z => ⟨pk_in k L z, H _⟩)
theorem tc_lawOf {post : Int32 → St0 → Prop} (hp : post 1 ()) (x0 x1 x2 x3 x4 : Int32) : wpL_lawOf post 100 1000 () x0 x1 x2 x3 x4 := by
  have z : ∀ p q, tc_P (fun _ => 0) p q 0 := tc_P_zero
  unfold wpL_lawOf
  refine ⟨by omega, by omega, 50, 500, by omega, by omega, ?_⟩
  unfold wpX_init
  refine ⟨by omega, by omega, by omega, by omega, by omega, by omega, by omega, by omega, by omega, by omega, by omega, by omega, ?_⟩
  unfold wX_init_61
  by_cases h2 : 2 ≤ x0
  · refine br_t h2 (br_c (fun h6 => br_t h2 (br_t h6 ?_)) (fun h6 => br_t h2 (br_f h6 ?_)))
    · obtain ⟨N, hN, eN⟩ := nI_of2 (x := x0) (M := 6) (n := 6) (by decide) (fun y => absurd (Int32.lt_of_le_of_lt h2 y) (by decide)) h6
      subst eN
      have hN2 : 2 ≤ N := (nI_leI (a := 2) (by omega) (by omega)).mp h2
      exact tc_31 hp hN2 hN z z
    · exact tc_31 (N := 6) hp (by omega) (by omega) z z
  · exact br_f h2 (br_t (by decide) (br_f h2 (tc_31 (N := 2) hp (by omega) (by omega) z z)))
theorem i_vc (xs : Nat → Int32) (L : Nat) (hL : L ≤ 5) : wpL_law (fun r => r = 1) L xs := by
  unfold wpL_law
  exact tc_cell (k := 0) hL (by omega) (fun r0 => tc_cell (k := 1) hL (by omega) (fun r1 => tc_cell (k := 2) hL (by omega) (fun r2 => tc_cell (k := 3) hL (by omega) (fun r3 => tc_cell (k := 4) hL (by omega) (fun r4 => ⟨100, 1000, by omega, by omega, tc_lawOf rfl r0 r1 r2 r3 r4⟩)))))
end
