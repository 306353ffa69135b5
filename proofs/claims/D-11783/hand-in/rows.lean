section
/-! plain rows: a pass over the places, and what it comes to when one, two or three places count -/
def se_fo {σ : Type} (f : Nat → σ → σ) (s : σ) : Nat → σ
  | 0 => s
  | n + 1 => f n (se_fo f s n)
theorem se_fo_skip {σ : Type} {f : Nat → σ → σ} {s : σ} (a b : Nat) (hab : a ≤ b) (h : ∀ i, a ≤ i → i < b → ∀ t, f i t = t) : se_fo f s b = se_fo f s a := by
  induction b with
  | zero =>
    have e : a = 0 := by omega
    rw [e]
  | succ b ih =>
    by_cases e : a = b + 1
    · rw [e]
    · show f b (se_fo f s b) = _
      rw [h b (by omega) (by omega)]
      exact ih (by omega) (fun i h1 h2 => h i h1 (by omega))
theorem se_foJ {σ : Type} {f : Nat → σ → σ} {s : σ} (P : Nat → σ → Prop) (N : Nat) (h0 : P 0 s) (h : ∀ i t, i < N → P i t → P (i + 1) (f i t)) : ∀ n, n ≤ N → P n (se_fo f s n) := by
  intro n
  induction n with
  | zero => exact fun _ => h0
  | succ n ih => exact fun hn => h n _ (by omega) (ih (by omega))
/-- a step that only the places of one core take -/
def se_on {σ : Type} (k : Nat → Nat) (co : Nat) (g : Nat → σ → σ) (i : Nat) (s : σ) : σ := if k i = co then g i s else s
theorem se_on_t {σ : Type} {k : Nat → Nat} {co : Nat} {g : Nat → σ → σ} {i : Nat} {s : σ} (h : k i = co) : se_on k co g i s = g i s := if_pos h
theorem se_on_f {σ : Type} {k : Nat → Nat} {co : Nat} {g : Nat → σ → σ} {i : Nat} {s : σ} (h : ¬ k i = co) : se_on k co g i s = s := if_neg h
theorem se_fo1 {σ : Type} {k : Nat → Nat} {co : Nat} {g : Nat → σ → σ} {s : σ} (i0 : Nat) (h0 : k i0 = co) (hn : ∀ i, i ≠ i0 → ¬ k i = co) (hi : i0 < 26) : se_fo (se_on k co g) s 26 = g i0 s := by
  rw [se_fo_skip (i0 + 1) 26 (by omega) (fun i _ _ t => se_on_f (hn i (by omega)))]
  show se_on k co g i0 (se_fo (se_on k co g) s i0) = _
  rw [se_on_t h0, se_fo_skip 0 i0 (by omega) (fun i _ _ t => se_on_f (hn i (by omega)))]
  rfl
theorem se_fo2 {σ : Type} {k : Nat → Nat} {co : Nat} {g : Nat → σ → σ} {s : σ} (i0 i1 : Nat) (h0 : k i0 = co) (h1 : k i1 = co) (hn : ∀ i, i ≠ i0 → i ≠ i1 → ¬ k i = co) (h01 : i0 < i1) (hi : i1 < 26) : se_fo (se_on k co g) s 26 = g i1 (g i0 s) := by
  rw [se_fo_skip (i1 + 1) 26 (by omega) (fun i _ _ t => se_on_f (hn i (by omega) (by omega)))]
  show se_on k co g i1 (se_fo (se_on k co g) s i1) = _
  rw [se_on_t h1, se_fo_skip (i0 + 1) i1 (by omega) (fun i _ _ t => se_on_f (hn i (by omega) (by omega)))]
  show g i1 (se_on k co g i0 (se_fo (se_on k co g) s i0)) = _
  rw [se_on_t h0, se_fo_skip 0 i0 (by omega) (fun i _ _ t => se_on_f (hn i (by omega) (by omega)))]
  rfl
theorem se_fo3 {σ : Type} {k : Nat → Nat} {co : Nat} {g : Nat → σ → σ} {s : σ} (i0 i1 i2 : Nat) (h0 : k i0 = co) (h1 : k i1 = co) (h2 : k i2 = co) (hn : ∀ i, i ≠ i0 → i ≠ i1 → i ≠ i2 → ¬ k i = co) (h01 : i0 < i1) (h12 : i1 < i2) (hi : i2 < 26) : se_fo (se_on k co g) s 26 = g i2 (g i1 (g i0 s)) := by
  rw [se_fo_skip (i2 + 1) 26 (by omega) (fun i _ _ t => se_on_f (hn i (by omega) (by omega) (by omega)))]
  show se_on k co g i2 (se_fo (se_on k co g) s i2) = _
  rw [se_on_t h2, se_fo_skip (i1 + 1) i2 (by omega) (fun i _ _ t => se_on_f (hn i (by omega) (by omega) (by omega)))]
  show g i2 (se_on k co g i1 (se_fo (se_on k co g) s i1)) = _
  rw [se_on_t h1, se_fo_skip (i0 + 1) i1 (by omega) (fun i _ _ t => se_on_f (hn i (by omega) (by omega) (by omega)))]
  show g i2 (g i1 (se_on k co g i0 (se_fo (se_on k co g) s i0))) = _
  rw [se_on_t h0, se_fo_skip 0 i0 (by omega) (fun i _ _ t => se_on_f (hn i (by omega) (by omega) (by omega)))]
  rfl
/-! the four scans of the demand test, in naturals; all periods are 10 -/
def se_ldg (c : Nat → Nat) (i s : Nat) : Nat := s + c i * 6
def se_deg (c d : Nat → Nat) (t i s : Nat) : Nat := if t < d i then s else s + ((t - d i) / 10 + 1) * c i
def se_leg (d : Nat → Nat) (i s : Nat) : Nat := if s ≤ d i then s else d i
def se_dbg (d : Nat → Nat) (t i s : Nat) : Nat := if t ≤ d i then s else if d i + (t - 1 - d i) / 10 * 10 ≤ s then s else d i + (t - 1 - d i) / 10 * 10
def se_ld (k c : Nat → Nat) (co : Nat) : Nat := se_fo (se_on k co (se_ldg c)) 0 26
def se_de (k c d : Nat → Nat) (co t : Nat) : Nat := se_fo (se_on k co (se_deg c d t)) 0 26
def se_le (k d : Nat → Nat) (co : Nat) : Nat := se_fo (se_on k co (se_leg d)) 60 26
def se_db (k d : Nat → Nat) (co t : Nat) : Nat := se_fo (se_on k co (se_dbg d t)) 0 26
def se_pl (dem dlb : Nat → Nat) (le : Nat) : Nat → Nat → Nat → Bool
  | 0, t, need => decide (need ≤ t) && decide (need ≤ le)
  | r + 1, t, need => if t < need ∨ need ≤ le then decide (need ≤ t) && decide (need ≤ le) else se_pl dem dlb le r (if need < t then need else dlb t) (dem (if need < t then need else dlb t))
def se_pass (k c d : Nat → Nat) (co : Nat) : Bool := if 60 < se_ld k c co then false else se_pl (se_de k c d co) (se_db k d co) (se_le k d co) 62 60 (se_de k c d co 60)
/-- with two parts, (A, 10) and (x, y) -/
def se_D1 (A t : Nat) : Nat := if t < 10 then 0 else 0 + ((t - 10) / 10 + 1) * A
def se_D2 (A x y t : Nat) : Nat := if t < y then se_D1 A t else se_D1 A t + ((t - y) / 10 + 1) * x
def se_B1 (t : Nat) : Nat := if t ≤ 10 then 0 else if 10 + (t - 1 - 10) / 10 * 10 ≤ 0 then 0 else 10 + (t - 1 - 10) / 10 * 10
def se_B2 (y t : Nat) : Nat := if t ≤ y then se_B1 t else if y + (t - 1 - y) / 10 * 10 ≤ se_B1 t then se_B1 t else y + (t - 1 - y) / 10 * 10
def se_L2 (y : Nat) : Nat := if 10 ≤ y then 10 else y
theorem se_pl1 : ∀ A, A < 10 → 6 ≤ A → se_pl (se_D1 A) se_B1 10 62 60 (se_D1 A 60) = true := by decide +kernel
def se_ok2 (A x y : Nat) : Bool := !(decide (6 ≤ A) && decide (1 ≤ x) && decide (x ≤ y) && decide (A + x ≤ 10)) || se_pl (se_D2 A x y) (se_B2 y) (se_L2 y) 62 60 (se_D2 A x y 60)
theorem se_pl2a : ∀ A, A < 10 → ∀ x, x < 5 → ∀ y, y < 11 → se_ok2 A x y = true := by decide +kernel
theorem se_pl2 (A : Nat) (hA : A < 10) (x : Nat) (hx : x < 5) (y : Nat) (hy : y < 11) (h6 : 6 ≤ A) (h1 : 1 ≤ x) (hxy : x ≤ y) (hs : A + x ≤ 10) : se_pl (se_D2 A x y) (se_B2 y) (se_L2 y) 62 60 (se_D2 A x y 60) = true := by
  have h := se_pl2a A hA x hx y hy
  unfold se_ok2 at h
  rw [decide_eq_true h6, decide_eq_true h1, decide_eq_true hxy, decide_eq_true hs] at h
  exact h
/-- core co holds its first task (place 2 co, cost A, deadline 10), and nothing else -/
def se_one (co A : Nat) (k c d : Nat → Nat) : Prop := k (2 * co) = co ∧ c (2 * co) = A ∧ d (2 * co) = 10 ∧ ∀ i, i ≠ 2 * co → ¬ k i = co
/-- core co holds its first task and, in place i1, a part of cost x with deadline y -/
def se_two (co i1 A x y : Nat) (k c d : Nat → Nat) : Prop := k (2 * co) = co ∧ c (2 * co) = A ∧ d (2 * co) = 10 ∧ k i1 = co ∧ c i1 = x ∧ d i1 = y ∧ ∀ i, i ≠ 2 * co → i ≠ i1 → ¬ k i = co
theorem se_pass1 {co A : Nat} {k c d : Nat → Nat} (h : se_one co A k c d) (hco : co < 2) (h6 : 6 ≤ A) (h9 : A ≤ 9) : se_pass k c d co = true := by
  obtain ⟨k0, c0, d0, hn⟩ := h
  have eL : se_ld k c co = A * 6 := by
    unfold se_ld
    rw [se_fo1 (2 * co) k0 hn (by omega)]
    unfold se_ldg
    rw [c0]
    omega
  have eD : se_de k c d co = se_D1 A := by
    funext t
    unfold se_de
    rw [se_fo1 (2 * co) k0 hn (by omega)]
    unfold se_deg
    rw [c0, d0]
    rfl
  have eB : se_db k d co = se_B1 := by
    funext t
    unfold se_db
    rw [se_fo1 (2 * co) k0 hn (by omega)]
    unfold se_dbg
    rw [d0]
    rfl
  have eE : se_le k d co = 10 := by
    unfold se_le
    rw [se_fo1 (2 * co) k0 hn (by omega)]
    unfold se_leg
    rw [d0]
    rfl
  unfold se_pass
  rw [eL, eD, eB, eE, if_neg (by omega)]
  exact se_pl1 A (by omega) h6
theorem se_ld2 {co i1 A x y : Nat} {k c d : Nat → Nat} (h : se_two co i1 A x y k c d) (h1 : 2 * co < i1) (hi : i1 < 26) : se_ld k c co = 6 * (A + x) := by
  obtain ⟨k0, c0, d0, k1, c1, d1, hn⟩ := h
  unfold se_ld
  rw [se_fo2 (2 * co) i1 k0 k1 hn h1 hi]
  unfold se_ldg
  rw [c0, c1]
  omega
theorem se_ld1 {co A : Nat} {k c d : Nat → Nat} (h : se_one co A k c d) (hco : co < 2) : se_ld k c co = 6 * A := by
  obtain ⟨k0, c0, d0, hn⟩ := h
  unfold se_ld
  rw [se_fo1 (2 * co) k0 hn (by omega)]
  unfold se_ldg
  rw [c0]
  omega
theorem se_pass2 {co i1 A x y : Nat} {k c d : Nat → Nat} (h : se_two co i1 A x y k c d) (h1 : 2 * co < i1) (hi : i1 < 26) (h6 : 6 ≤ A) (h9 : A ≤ 9) (hx : 1 ≤ x) (hxy : x ≤ y) (hy : y ≤ 10) : se_pass k c d co = decide (A + x ≤ 10) := by
  have eL := se_ld2 h h1 hi
  obtain ⟨k0, c0, d0, k1, c1, d1, hn⟩ := h
  have eD : se_de k c d co = se_D2 A x y := by
    funext t
    unfold se_de
    rw [se_fo2 (2 * co) i1 k0 k1 hn h1 hi]
    unfold se_deg
    rw [c0, d0, c1, d1]
    rfl
  have eB : se_db k d co = se_B2 y := by
    funext t
    unfold se_db
    rw [se_fo2 (2 * co) i1 k0 k1 hn h1 hi]
    unfold se_dbg
    rw [d0, d1]
    rfl
  have eE : se_le k d co = se_L2 y := by
    unfold se_le
    rw [se_fo2 (2 * co) i1 k0 k1 hn h1 hi]
    unfold se_leg
    rw [d0, d1]
    rfl
  unfold se_pass
  rw [eL, eD, eB, eE]
  by_cases g : A + x ≤ 10
  · rw [if_neg (by omega), decide_eq_true g]
    exact se_pl2 A (by omega) x (by omega) y (by omega) h6 hx hxy g
  · rw [if_pos (by omega), decide_eq_false g]
theorem se_pass3 {co i1 i2 : Nat} {k c d : Nat → Nat} (k0 : k (2 * co) = co) (k1 : k i1 = co) (k2 : k i2 = co) (hn : ∀ i, i ≠ 2 * co → i ≠ i1 → i ≠ i2 → ¬ k i = co) (h1 : 2 * co < i1) (h2 : i1 < i2) (hi : i2 < 26) (hs : 10 < c (2 * co) + c i1 + c i2) : se_pass k c d co = false := by
  have eL : se_ld k c co = 6 * (c (2 * co) + c i1 + c i2) := by
    unfold se_ld
    rw [se_fo3 (2 * co) i1 i2 k0 k1 k2 hn h1 h2 hi]
    unfold se_ldg
    omega
  unfold se_pass
  rw [eL, if_pos (by omega)]
/-! the picture of a state -/
def se_K (k : Nat) : Int32 := if k = 0 then 0 else if k = 1 then 1 else -1
theorem se_Kc {k co : Nat} (h : co < 2) : se_K k = nI co ↔ k = co := by
  unfold se_K
  have hc : co = 0 ∨ co = 1 := by omega
  rcases hc with rfl | rfl
  · by_cases h0 : k = 0
    · rw [if_pos h0]
      exact ⟨fun _ => h0, fun _ => rfl⟩
    · rw [if_neg h0]
      by_cases h1 : k = 1
      · rw [if_pos h1]
        exact ⟨fun z => absurd z (by decide), fun z => absurd z h0⟩
      · rw [if_neg h1]
        exact ⟨fun z => absurd z (by decide), fun z => absurd z h0⟩
  · by_cases h0 : k = 0
    · rw [if_pos h0]
      exact ⟨fun z => absurd z (by decide), fun z => absurd z (by omega)⟩
    · rw [if_neg h0]
      by_cases h1 : k = 1
      · rw [if_pos h1]
        exact ⟨fun _ => h1, fun _ => rfl⟩
      · rw [if_neg h1]
        exact ⟨fun z => absurd z (by decide), fun z => absurd z h1⟩
theorem se_K2 : se_K 2 = -1 := rfl
def se_u (f : Nat → Nat) (i v : Nat) : Nat → Nat := fun j => if j = i then v else f j
theorem se_us {f : Nat → Nat} {i v : Nat} : se_u f i v i = v := if_pos rfl
theorem se_un {f : Nat → Nat} {i v j : Nat} (h : j ≠ i) : se_u f i v j = f j := if_neg h
/-- k: the core of a place's part (2: none), c: its cost, d: its deadline -/
def se_R (k c d : Nat → Nat) (a2 a3 a4 a5 : Nat → Int32) : Prop := ∀ i, i < 26 → a3 i = se_K (k i) ∧ (k i < 2 → a4 i = nI (c i) ∧ a5 i = nI (d i) ∧ a2 (i / 2) = nI 10 ∧ c i ≤ 10 ∧ d i ≤ 10)
section
variable {k c d : Nat → Nat} {a2 a3 a4 a5 : Nat → Int32}
theorem se_R_set {i v x y : Nat} (hR : se_R k c d a2 a3 a4 a5) (hv : v < 2) (h2 : a2 (i / 2) = nI 10) (hx : x ≤ 10) (hy : y ≤ 10) : se_R (se_u k i v) (se_u c i x) (se_u d i y) a2 (upd a3 i (nI v)) (upd a4 i (nI x)) (upd a5 i (nI y)) := by
  intro j hj
  by_cases e : j = i
  · subst e
    rw [se_us, se_us, se_us, pk_us, pk_us, pk_us]
    exact ⟨((se_Kc hv).mpr rfl).symm, fun _ => ⟨rfl, rfl, h2, hx, hy⟩⟩
  · rw [se_un e, se_un e, se_un e, pk_un e, pk_un e, pk_un e]
    exact hR j hj
theorem se_R_drop (hR : se_R k c d a2 a3 a4 a5) (i : Nat) : se_R (se_u k i 2) c d a2 (upd a3 i (-1)) a4 a5 := by
  intro j hj
  by_cases e : j = i
  · subst e
    rw [se_us, pk_us]
    exact ⟨rfl, fun z => absurd z (by omega)⟩
  · rw [se_un e, pk_un e]
    exact hR j hj
theorem se_R_back {i : Nat} {v x y : Int32} (hR : se_R k c d a2 a3 a4 a5) (hk : k i = 2) : se_R k c d a2 (upd (upd a3 i v) i (-1)) (upd a4 i x) (upd a5 i y) := by
  intro j hj
  by_cases e : j = i
  · subst e
    rw [pk_us, hk]
    exact ⟨rfl, fun z => absurd z (by omega)⟩
  · rw [pk_un e, pk_un e, pk_un e, pk_un e]
    exact hR j hj
theorem se_R_per {U : Nat} (hR : se_R k c d a2 a3 a4 a5) : se_R k c d (upd a2 U (nI 10)) a3 a4 a5 := by
  intro j hj
  obtain ⟨h3, h⟩ := hR j hj
  refine ⟨h3, fun z => ?_⟩
  obtain ⟨h4, h5, h2, hc, hd⟩ := h z
  refine ⟨h4, h5, ?_, hc, hd⟩
  by_cases e : j / 2 = U
  · rw [e, pk_us]
  · rw [pk_un e]
    exact h2
end
end
section
section
variable {f0 f1 f2 f3 : Int32} {a1 a2 a3 a4 a5 a6 a7 a8 a9 a10 : Nat → Int32}
variable {k c d : Nat → Nat} {co : Nat}
theorem se_load {post : Int32 → Prop} (hco : co < 2) (hR : se_R k c d a2 a3 a4 a5) (hp : post (nI (se_ld k c co))) : wpX_loadOf post (f0, f1, f2, f3, a1, a2, a3, a4, a5, a6, a7, a8, a9, a10) (nI co) := by
  have H : ∃ n, wX_loadOf_4 post (nI co) f0 f1 f2 f3 a1 a2 a3 a4 a5 a6 a7 a8 a9 a10 n 0 0 := by
    refine pk_loop (σ := Unit) (fun n i _ => wX_loadOf_4 post (nI co) f0 f1 f2 f3 a1 a2 a3 a4 a5 a6 a7 a8 a9 a10 n (nI (se_fo (se_on k co (se_ldg c)) 0 i)) (nI i)) (fun _ _ => True) 26 0 () (by omega) trivial (fun n _ _ => ?_) (fun n i _ hi _ hw => ?_)
    · exact pk_le 26 26 (fun _ => hp) (fun z => absurd z (by omega))
    · have hw' : wX_loadOf_4 post (nI co) f0 f1 f2 f3 a1 a2 a3 a4 a5 a6 a7 a8 a9 a10 n (nI (se_on k co (se_ldg c) i (se_fo (se_on k co (se_ldg c)) 0 i))) (nI (i + 1)) := hw () trivial
      obtain ⟨h3, h⟩ := hR i hi
      have ec : (nI i).toNatClampNeg = i := nI_clamp (by omega)
      have e2 : nI i / 2 = nI (i / 2) := pk_div (a := i) (d := 2) (by omega) (by decide) (by decide)
      refine pk_le 26 i (fun z => absurd z (by omega)) (fun _ => ⟨pk_in i 26 hi, ?_⟩)
      rw [ec, e2, nI_clamp (show i / 2 < 2 ^ 31 by omega), h3]
      refine ek_if (se_Kc hco) (fun hk => ?_) (fun hk => ?_)
      · obtain ⟨h4, h5, h2, -, -⟩ := h (by omega)
        rw [se_on_t hk] at hw'
        rw [h4, h2]
        refine ⟨pk_in i 26 hi, by decide, pk_in (i / 2) 13 (by omega), by decide, nm_r ?_ (nm_r (nI_1 i) hw')⟩
        rw [show (60 : Int32) / nI 10 = nI 6 from by decide, pk_mul, nI_add]
        rfl
      · rw [se_on_f hk] at hw'
        exact nm_r (nI_1 i) hw'
  exact H
theorem se_demand {post : Int32 → Prop} {t : Nat} (hco : co < 2) (hR : se_R k c d a2 a3 a4 a5) (ht : t < 2 ^ 31) (hp : post (nI (se_de k c d co t))) : wpX_demand post (f0, f1, f2, f3, a1, a2, a3, a4, a5, a6, a7, a8, a9, a10) (nI co) (nI t) := by
  have H : ∃ n, wX_demand_5 post (nI co) (nI t) f0 f1 f2 f3 a1 a2 a3 a4 a5 a6 a7 a8 a9 a10 n 0 0 := by
    refine pk_loop (σ := Unit) (fun n i _ => wX_demand_5 post (nI co) (nI t) f0 f1 f2 f3 a1 a2 a3 a4 a5 a6 a7 a8 a9 a10 n (nI (se_fo (se_on k co (se_deg c d t)) 0 i)) (nI i)) (fun _ _ => True) 26 0 () (by omega) trivial (fun n _ _ => ?_) (fun n i _ hi _ hw => ?_)
    · exact pk_le 26 26 (fun _ => hp) (fun z => absurd z (by omega))
    · have hw' : wX_demand_5 post (nI co) (nI t) f0 f1 f2 f3 a1 a2 a3 a4 a5 a6 a7 a8 a9 a10 n (nI (se_on k co (se_deg c d t) i (se_fo (se_on k co (se_deg c d t)) 0 i))) (nI (i + 1)) := hw () trivial
      generalize se_fo (se_on k co (se_deg c d t)) 0 i = s at hw' ⊢
      obtain ⟨h3, h⟩ := hR i hi
      have ec : (nI i).toNatClampNeg = i := nI_clamp (by omega)
      have e2 : nI i / 2 = nI (i / 2) := pk_div (a := i) (d := 2) (by omega) (by decide) (by decide)
      refine pk_le 26 i (fun z => absurd z (by omega)) (fun _ => ⟨pk_in i 26 hi, ?_⟩)
      rw [ec, e2, nI_clamp (show i / 2 < 2 ^ 31 by omega), h3]
      refine ek_if (se_Kc hco) (fun hk => ?_) (fun hk => ?_)
      · obtain ⟨h4, h5, h2, hc, hd⟩ := h (by omega)
        rw [se_on_t hk] at hw'
        unfold se_deg at hw'
        rw [h4, h5, h2]
        refine ⟨pk_in i 26 hi, pk_lt t (d i) (fun z => nm_r (nI_1 i) ?_) (fun z => ⟨pk_in i 26 hi, by decide, pk_in (i / 2) 13 (by omega), by decide, pk_in i 26 hi, nm_r ?_ (nm_r (nI_1 i) hw')⟩)⟩
        · rw [if_pos z] at hw'
          exact hw'
        · rw [if_neg (by omega), pk_sub z, pk_div (by omega) (by omega) (by omega), nI_1, pk_mul, nI_add]
      · rw [se_on_f hk] at hw'
        exact nm_r (nI_1 i) hw'
  exact H
theorem se_le60 (k d : Nat → Nat) (co n : Nat) : se_fo (se_on k co (se_leg d)) 60 n ≤ 60 := by
  refine se_foJ (fun _ s => s ≤ 60) n (by omega) (fun i t _ ht => ?_) n (by omega)
  unfold se_on se_leg
  split
  · split <;> omega
  · exact ht
theorem se_least {post : Int32 → Prop} (hco : co < 2) (hR : se_R k c d a2 a3 a4 a5) (hp : post (nI (se_le k d co))) : wpX_leastDeadline post (f0, f1, f2, f3, a1, a2, a3, a4, a5, a6, a7, a8, a9, a10) (nI co) := by
  have H : ∃ n, wX_leastDeadline_5 post (nI co) f0 f1 f2 f3 a1 a2 a3 a4 a5 a6 a7 a8 a9 a10 n 60 0 := by
    refine pk_loop (σ := Unit) (fun n i _ => wX_leastDeadline_5 post (nI co) f0 f1 f2 f3 a1 a2 a3 a4 a5 a6 a7 a8 a9 a10 n (nI (se_fo (se_on k co (se_leg d)) 60 i)) (nI i)) (fun _ _ => True) 26 0 () (by omega) trivial (fun n _ _ => ?_) (fun n i _ hi _ hw => ?_)
    · exact pk_le 26 26 (fun _ => hp) (fun z => absurd z (by omega))
    · have hw' : wX_leastDeadline_5 post (nI co) f0 f1 f2 f3 a1 a2 a3 a4 a5 a6 a7 a8 a9 a10 n (nI (se_on k co (se_leg d) i (se_fo (se_on k co (se_leg d)) 60 i))) (nI (i + 1)) := hw () trivial
      have hs := se_le60 k d co i
      generalize se_fo (se_on k co (se_leg d)) 60 i = s at hs hw' ⊢
      obtain ⟨h3, h⟩ := hR i hi
      have ec : (nI i).toNatClampNeg = i := nI_clamp (by omega)
      refine pk_le 26 i (fun z => absurd z (by omega)) (fun _ => ⟨pk_in i 26 hi, ?_⟩)
      rw [ec, h3]
      refine ek_if (se_Kc hco) (fun hk => ?_) (fun hk => ?_)
      · obtain ⟨h4, h5, h2, hc, hd⟩ := h (by omega)
        rw [se_on_t hk] at hw'
        unfold se_leg at hw'
        rw [h5]
        refine ⟨pk_in i 26 hi, pk_le s (d i) (fun z => nm_r (nI_1 i) ?_) (fun z => ⟨pk_in i 26 hi, nm_e (nm_r (nI_1 i) ?_)⟩)⟩
        · rw [if_pos z] at hw'
          exact hw'
        · rw [if_neg (by omega)] at hw'
          exact hw'
      · rw [se_on_f hk] at hw'
        exact nm_r (nI_1 i) hw'
  exact H
theorem se_dbt (k d : Nat → Nat) (co t n : Nat) : se_fo (se_on k co (se_dbg d t)) 0 n ≤ t := by
  refine se_foJ (fun _ s => s ≤ t) n (by omega) (fun i s _ ht => ?_) n (by omega)
  unfold se_on se_dbg
  split
  · split
    · exact ht
    · split
      · exact ht
      · omega
  · exact ht
theorem se_before {post : Int32 → Prop} {t : Nat} (hco : co < 2) (hR : se_R k c d a2 a3 a4 a5) (ht : t < 2 ^ 31) (hp : post (nI (se_db k d co t))) : wpX_deadlineBefore post (f0, f1, f2, f3, a1, a2, a3, a4, a5, a6, a7, a8, a9, a10) (nI co) (nI t) := by
  have H : ∃ n, wX_deadlineBefore_5 post (nI co) (nI t) f0 f1 f2 f3 a1 a2 a3 a4 a5 a6 a7 a8 a9 a10 n 0 0 := by
    refine pk_loop (σ := Unit) (fun n i _ => wX_deadlineBefore_5 post (nI co) (nI t) f0 f1 f2 f3 a1 a2 a3 a4 a5 a6 a7 a8 a9 a10 n (nI (se_fo (se_on k co (se_dbg d t)) 0 i)) (nI i)) (fun _ _ => True) 26 0 () (by omega) trivial (fun n _ _ => ?_) (fun n i _ hi _ hw => ?_)
    · exact pk_le 26 26 (fun _ => hp) (fun z => absurd z (by omega))
    · have hw' : wX_deadlineBefore_5 post (nI co) (nI t) f0 f1 f2 f3 a1 a2 a3 a4 a5 a6 a7 a8 a9 a10 n (nI (se_on k co (se_dbg d t) i (se_fo (se_on k co (se_dbg d t)) 0 i))) (nI (i + 1)) := hw () trivial
      have hs := se_dbt k d co t i
      generalize se_fo (se_on k co (se_dbg d t)) 0 i = s at hs hw' ⊢
      obtain ⟨h3, h⟩ := hR i hi
      have ec : (nI i).toNatClampNeg = i := nI_clamp (by omega)
      have e2 : nI i / 2 = nI (i / 2) := pk_div (a := i) (d := 2) (by omega) (by decide) (by decide)
      refine pk_le 26 i (fun z => absurd z (by omega)) (fun _ => ⟨pk_in i 26 hi, ?_⟩)
      rw [ec, e2, nI_clamp (show i / 2 < 2 ^ 31 by omega), h3]
      refine ek_if (se_Kc hco) (fun hk => ?_) (fun hk => ?_)
      · obtain ⟨h4, h5, h2, hc, hd⟩ := h (by omega)
        rw [se_on_t hk] at hw'
        unfold se_dbg at hw'
        rw [h5, h2]
        refine ⟨pk_in i 26 hi, pk_le t (d i) (fun z => nm_r (nI_1 i) ?_) (fun z => ⟨pk_in i 26 hi, pk_in i 26 hi, by decide, pk_in (i / 2) 13 (by omega), by decide, by decide, pk_in (i / 2) 13 (by omega), nm_r (e' := nI (d i + (t - 1 - d i) / 10 * 10)) ?_ (pk_le (d i + (t - 1 - d i) / 10 * 10) s (fun z2 => nm_r (nI_1 i) ?_) (fun z2 => nm_r (nI_1 i) ?_))⟩)⟩
        · rw [if_pos z] at hw'
          exact hw'
        · have e1 : nI t - 1 = nI (t - 1) := pk_sub (a := t) (b := 1) (by omega)
          rw [e1, pk_sub (by omega), pk_div (by omega) (by omega) (by omega), pk_mul, nI_add]
        · rw [if_neg (by omega), if_pos z2] at hw'
          exact hw'
        · rw [if_neg (by omega), if_neg (by omega)] at hw'
          exact hw'
      · rw [se_on_f hk] at hw'
        exact nm_r (nI_1 i) hw'
  exact H
def se_b (x : Bool) : Int32 := if x = true then 1 else 0
theorem se_s92 {post : Int32 → Prop} {le t need : Nat} (hl : le < 2 ^ 31) (ht : t < 2 ^ 31) (hn : need < 2 ^ 31) (hp : post (se_b (decide (need ≤ t) && decide (need ≤ le)))) : wX_passes_92 post (nI le) (nI t) (nI need) f0 f1 f2 f3 a1 a2 a3 a4 a5 a6 a7 a8 a9 a10 := by
  refine pk_lt t need (fun z => ?_) (fun z => pk_lt le need (fun z2 => ?_) (fun z2 => ?_))
  · rw [decide_eq_false (show ¬ need ≤ t by omega)] at hp
    exact hp
  · rw [decide_eq_false (show ¬ need ≤ le by omega), Bool.and_false] at hp
    exact hp
  · rw [decide_eq_true z, decide_eq_true z2] at hp
    exact hp
theorem se_deB {t : Nat} (hco : co < 2) (hR : se_R k c d a2 a3 a4 a5) (ht : t ≤ 60) : se_de k c d co t ≤ 1820 := by
  have h := se_foJ (f := se_on k co (se_deg c d t)) (s := 0) (fun i s => s ≤ 70 * i) 26 (by omega) (fun i s hi hs => by
    unfold se_on se_deg
    split
    · rename_i hk
      obtain ⟨h4, h5, h2, hc, hd⟩ := (hR i hi).2 (by omega)
      split
      · omega
      · have h7 : (t - d i) / 10 + 1 ≤ 7 := by omega
        have := Nat.mul_le_mul h7 hc
        omega
    · omega) 26 (by omega)
  exact h
theorem se_ldB (hco : co < 2) (hR : se_R k c d a2 a3 a4 a5) : se_ld k c co ≤ 1820 := by
  have h := se_foJ (f := se_on k co (se_ldg c)) (s := 0) (fun i s => s ≤ 70 * i) 26 (by omega) (fun i s hi hs => by
    unfold se_on se_ldg
    split
    · rename_i hk
      obtain ⟨h4, h5, h2, hc, hd⟩ := (hR i hi).2 (by omega)
      omega
    · omega) 26 (by omega)
  exact h
theorem se_s36 {post : Int32 → Prop} {le : Nat} (hco : co < 2) (hR : se_R k c d a2 a3 a4 a5) (hl : le < 2 ^ 31) : ∀ (r t need : Nat), r ≤ 62 → t ≤ 60 → need < 2 ^ 31 → post (se_b (se_pl (se_de k c d co) (se_db k d co) le r t need)) → wX_passes_36 post (nI co) (nI le) f0 f1 f2 f3 a1 a2 a3 a4 a5 a6 a7 a8 a9 a10 (r + 1) (nI t) (nI need) (nI (62 - r)) := by
  intro r
  induction r with
  | zero =>
    intro t need hr ht hn hp
    exact pk_le 62 62 (fun _ => se_s92 hl (by omega) hn hp) (fun z => absurd z (by omega))
  | succ r ih =>
    intro t need hr ht hn hp
    unfold se_pl at hp
    have step : ∀ t', t' ≤ 60 → post (se_b (se_pl (se_de k c d co) (se_db k d co) le r t' (se_de k c d co t'))) → wX_passes_75 post (wX_passes_36 post (nI co) (nI le) f0 f1 f2 f3 a1 a2 a3 a4 a5 a6 a7 a8 a9 a10 (r + 1)) (nI co) (nI le) (nI (62 - (r + 1))) (nI t') f0 f1 f2 f3 a1 a2 a3 a4 a5 a6 a7 a8 a9 a10 := by
      intro t' ht' hp'
      have hB := se_deB hco hR ht'
      refine se_demand hco hR (by omega) (nm_r (e' := nI (62 - r)) ?_ (ih t' _ (by omega) ht' (by omega) hp'))
      rw [nI_1, show 62 - (r + 1) + 1 = 62 - r by omega]
    refine pk_le 62 (62 - (r + 1)) (fun z => absurd z (by omega)) (fun _ => pk_lt t need (fun z => ?_) (fun z => pk_le need le (fun z2 => ?_) (fun z2 => pk_le t need (fun z3 => ?_) (fun z3 => ?_))))
    · rw [if_pos (Or.inl z)] at hp
      exact se_s92 hl (by omega) hn hp
    · rw [if_pos (Or.inr z2)] at hp
      exact se_s92 hl (by omega) hn hp
    · rw [if_neg (by omega), if_neg (by omega)] at hp
      have hb : se_db k d co t ≤ t := se_dbt k d co t 26
      exact se_before hco hR (by omega) (step _ (by omega) hp)
    · rw [if_neg (by omega), if_pos z3] at hp
      exact step need (by omega) hp
theorem se_passes {post : Int32 → Prop} (hco : co < 2) (hR : se_R k c d a2 a3 a4 a5) (hp : post (se_b (se_pass k c d co))) : wpX_passes post (f0, f1, f2, f3, a1, a2, a3, a4, a5, a6, a7, a8, a9, a10) (nI co) := by
  have hL := se_ldB hco hR
  have hE : se_le k d co ≤ 60 := se_le60 k d co 26
  have hD := se_deB (t := 60) hco hR (by omega)
  unfold se_pass at hp
  unfold wpX_passes
  refine se_load hco hR (pk_le (se_ld k c co) 60 (fun z => se_least hco hR (se_demand (t := 60) hco hR (by omega) ⟨63, ?_⟩)) (fun z => ?_))
  · rw [if_neg (by omega)] at hp
    exact se_s36 hco hR (by omega) 62 60 _ (by omega) (by omega) (by omega) hp
  · rw [if_pos (by omega)] at hp
    exact hp
end
end
section
section
variable {f0 f1 f2 f3 : Int32} {a1 a2 a3 a4 a5 a6 a7 a8 a9 a10 : Nat → Int32}
variable {k c d : Nat → Nat} {co : Nat}
theorem se_up {f : Nat → Int32} {i : Nat} {v : Int32} {P : (Nat → Int32) → Prop} (hi : i < 2 ^ 31) (h : P (upd f i v)) : ∀ g, g = upd f (nI i).toNatClampNeg v → P g := by
  rw [nI_clamp hi]
  exact nm_e h
theorem se_set {post : St2 → Prop} {i : Nat} {p1 p2 p3 : Int32} (hi : i < 26) (hp : post (f0, f1, f2, f3, a1, a2, upd a3 i p1, upd a4 i p2, upd a5 i p3, a6, a7, a8, a9, a10)) : wpX_setPart post (f0, f1, f2, f3, a1, a2, a3, a4, a5, a6, a7, a8, a9, a10) (nI i) p1 p2 p3 :=
  have n : vp_in (nI i) 26 := pk_in i 26 hi
  have l : i < 2 ^ 31 := by omega
  ⟨n, se_up l ⟨n, se_up l ⟨n, se_up l hp⟩⟩⟩
theorem se_pw {post : Int32 → St2 → Prop} {i x y : Nat} (hco : co < 2) (hR : se_R k c d a2 a3 a4 a5) (hi : i < 26) (hk : k i = 2) (h2 : a2 (i / 2) = nI 10) (hx : x ≤ 10) (hy : y ≤ 10)
    (hp : ∀ b3 b4 b5, se_R k c d a2 b3 b4 b5 → post (se_b (se_pass (se_u k i co) (se_u c i x) (se_u d i y) co)) (f0, f1, f2, f3, a1, a2, b3, b4, b5, a6, a7, a8, a9, a10)) : wpX_passesWith post (f0, f1, f2, f3, a1, a2, a3, a4, a5, a6, a7, a8, a9, a10) (nI co) (nI i) (nI x) (nI y) := by
  unfold wpX_passesWith
  refine se_set hi (se_passes hco (se_R_set hR hco h2 hx hy) ⟨pk_in i 26 hi, se_up (by omega) ⟨?_, hp _ _ _ (se_R_back hR hk)⟩⟩)
  cases se_pass (se_u k i co) (se_u c i x) (se_u d i y) co <;> rfl
theorem se_pw1 {post : Int32 → St2 → Prop} {i x y : Nat} (hco : co < 2) (hR : se_R k c d a2 a3 a4 a5) (hi : i < 26) (hk : k i = 2) (h2 : a2 (i / 2) = nI 10) (hx : x ≤ 10) (hy : y ≤ 10) (hb : se_pass (se_u k i co) (se_u c i x) (se_u d i y) co = true)
    (hp : ∀ b3 b4 b5, se_R k c d a2 b3 b4 b5 → post 1 (f0, f1, f2, f3, a1, a2, b3, b4, b5, a6, a7, a8, a9, a10)) : wpX_passesWith post (f0, f1, f2, f3, a1, a2, a3, a4, a5, a6, a7, a8, a9, a10) (nI co) (nI i) (nI x) (nI y) :=
  se_pw hco hR hi hk h2 hx hy (by rw [hb]; exact hp)
theorem se_pw0 {post : Int32 → St2 → Prop} {i x y : Nat} (hco : co < 2) (hR : se_R k c d a2 a3 a4 a5) (hi : i < 26) (hk : k i = 2) (h2 : a2 (i / 2) = nI 10) (hx : x ≤ 10) (hy : y ≤ 10) (hb : se_pass (se_u k i co) (se_u c i x) (se_u d i y) co = false)
    (hp : ∀ b3 b4 b5, se_R k c d a2 b3 b4 b5 → post 0 (f0, f1, f2, f3, a1, a2, b3, b4, b5, a6, a7, a8, a9, a10)) : wpX_passesWith post (f0, f1, f2, f3, a1, a2, a3, a4, a5, a6, a7, a8, a9, a10) (nI co) (nI i) (nI x) (nI y) :=
  se_pw hco hR hi hk h2 hx hy (by rw [hb]; exact hp)
theorem se_pwh {post : Int32 → St2 → Prop} {U w : Nat} (hR : se_R k c d a2 a3 a4 a5) (hU : U ≤ 12) (hk : k (2 * U) = 2) (h2 : a2 U = nI 10) (hw : w ≤ 10)
    (H0 : se_pass (se_u k (2 * U) 0) (se_u c (2 * U) w) (se_u d (2 * U) 10) 0 = true → ∀ b3 b4 b5, se_R (se_u k (2 * U) 0) (se_u c (2 * U) w) (se_u d (2 * U) 10) a2 b3 b4 b5 → post 1 (2, f1, f2, f3, a1, a2, b3, b4, b5, a6, a7, a8, a9, a10))
    (H1 : se_pass (se_u k (2 * U) 0) (se_u c (2 * U) w) (se_u d (2 * U) 10) 0 = false → se_pass (se_u k (2 * U) 1) (se_u c (2 * U) w) (se_u d (2 * U) 10) 1 = true → ∀ b3 b4 b5, se_R (se_u k (2 * U) 1) (se_u c (2 * U) w) (se_u d (2 * U) 10) a2 b3 b4 b5 → post 1 (2, f1, f2, f3, a1, a2, b3, b4, b5, a6, a7, a8, a9, a10))
    (H2 : se_pass (se_u k (2 * U) 0) (se_u c (2 * U) w) (se_u d (2 * U) 10) 0 = false → se_pass (se_u k (2 * U) 1) (se_u c (2 * U) w) (se_u d (2 * U) 10) 1 = false → ∀ b3 b4 b5, se_R k c d a2 b3 b4 b5 → post 0 (2, f1, f2, f3, a1, a2, b3, b4, b5, a6, a7, a8, a9, a10)) :
    wpX_placeWhole post (2, f1, f2, f3, a1, a2, a3, a4, a5, a6, a7, a8, a9, a10) (nI U) (nI w) 10 := by
  have e : (2 : Int32) * nI U = nI (2 * U) := pk_mul 2 U
  have h2' : a2 (2 * U / 2) = nI 10 := by
    rw [show 2 * U / 2 = U by omega]
    exact h2
  refine ⟨3, ?_⟩
  refine pk_le 2 0 (fun z => absurd z (by omega)) (fun _ => ?_)
  rw [e]
  cases hb : se_pass (se_u k (2 * U) 0) (se_u c (2 * U) w) (se_u d (2 * U) 10) 0 with
  | true =>
    refine se_pw1 (co := 0) (x := w) (y := 10) (by omega) hR (by omega) hk h2' hw (by omega) hb (fun b3 b4 b5 hR' => ?_)
    exact br_f (by decide) (se_set (by omega) (H0 hb _ _ _ (se_R_set (v := 0) (y := 10) hR' (by omega) h2' hw (by omega))))
  | false =>
    refine se_pw0 (co := 0) (x := w) (y := 10) (by omega) hR (by omega) hk h2' hw (by omega) hb (fun b3 b4 b5 hR' => ?_)
    refine br_t rfl (nm_r (e' := nI 1) rfl ?_)
    refine pk_le 2 1 (fun z => absurd z (by omega)) (fun _ => ?_)
    rw [e]
    cases hb1 : se_pass (se_u k (2 * U) 1) (se_u c (2 * U) w) (se_u d (2 * U) 10) 1 with
    | true =>
      refine se_pw1 (co := 1) (x := w) (y := 10) (by omega) hR' (by omega) hk h2' hw (by omega) hb1 (fun b3 b4 b5 hR' => ?_)
      exact br_f (by decide) (se_set (by omega) (H1 hb hb1 _ _ _ (se_R_set (v := 1) (y := 10) hR' (by omega) h2' hw (by omega))))
    | false =>
      refine se_pw0 (co := 1) (x := w) (y := 10) (by omega) hR' (by omega) hk h2' hw (by omega) hb1 (fun b3 b4 b5 hR' => ?_)
      exact br_t rfl (nm_r (e' := nI 2) rfl (pk_le 2 2 (fun _ => H2 hb hb1 _ _ _ hR') (fun z => absurd z (by omega))))
theorem se_cfr {post : Int32 → St2 → Prop} {U x y : Nat} (o o' : Nat) (ho : o = 0 ∧ o' = 1 ∨ o = 1 ∧ o' = 0) (hR : se_R k c d a2 a3 a4 a5) (hU : U ≤ 12) (hk : k (2 * U + 1) = 2) (h2 : a2 U = nI 10) (hx : x ≤ 10) (hy : y ≤ 10)
    (H1 : se_pass (se_u k (2 * U + 1) o') (se_u c (2 * U + 1) x) (se_u d (2 * U + 1) y) o' = true → ∀ b3 b4 b5, se_R k c d a2 b3 b4 b5 → post (nI o') (2, f1, f2, f3, a1, a2, b3, b4, b5, a6, a7, a8, a9, a10))
    (H0 : se_pass (se_u k (2 * U + 1) o') (se_u c (2 * U + 1) x) (se_u d (2 * U + 1) y) o' = false → ∀ b3 b4 b5, se_R k c d a2 b3 b4 b5 → post (-1) (2, f1, f2, f3, a1, a2, b3, b4, b5, a6, a7, a8, a9, a10)) :
    wpX_coreForRest post (2, f1, f2, f3, a1, a2, a3, a4, a5, a6, a7, a8, a9, a10) (nI U) (nI o) (nI x) (nI y) := by
  have e : (2 : Int32) * nI U + 1 = nI (2 * U + 1) := by
    rw [show (2 : Int32) * nI U = nI (2 * U) from pk_mul 2 U, nI_1]
  have h2' : a2 ((2 * U + 1) / 2) = nI 10 := by
    rw [show (2 * U + 1) / 2 = U by omega]
    exact h2
  rcases ho with ⟨rfl, rfl⟩ | ⟨rfl, rfl⟩
  · refine ⟨4, ?_⟩
    refine pk_le 2 0 (fun z => absurd z (by omega)) (fun _ => pk_eq 0 0 (fun _ => nm_r (e' := nI 1) rfl ?_) (fun z => absurd rfl z))
    refine pk_le 2 1 (fun z => absurd z (by omega)) (fun _ => pk_eq 1 0 (fun z => absurd z (by omega)) (fun _ => ?_))
    rw [e]
    cases hb : se_pass (se_u k (2 * U + 1) 1) (se_u c (2 * U + 1) x) (se_u d (2 * U + 1) y) 1 with
    | true => exact se_pw1 (co := 1) (by omega) hR (by omega) hk h2' hx hy hb (fun b3 b4 b5 hR' => br_f (by decide) (H1 hb b3 b4 b5 hR'))
    | false => exact se_pw0 (co := 1) (by omega) hR (by omega) hk h2' hx hy hb (fun b3 b4 b5 hR' => br_t rfl (nm_r (e' := nI 2) rfl (pk_le 2 2 (fun _ => H0 hb b3 b4 b5 hR') (fun z => absurd z (by omega)))))
  · refine ⟨4, ?_⟩
    refine pk_le 2 0 (fun z => absurd z (by omega)) (fun _ => pk_eq 0 1 (fun z => absurd z (by omega)) (fun _ => ?_))
    rw [e]
    cases hb : se_pass (se_u k (2 * U + 1) 0) (se_u c (2 * U + 1) x) (se_u d (2 * U + 1) y) 0 with
    | true => exact se_pw1 (co := 0) (by omega) hR (by omega) hk h2' hx hy hb (fun b3 b4 b5 hR' => br_f (by decide) (H1 hb b3 b4 b5 hR'))
    | false =>
      refine se_pw0 (co := 0) (by omega) hR (by omega) hk h2' hx hy hb (fun b3 b4 b5 hR' => br_t rfl (nm_r (e' := nI 1) rfl ?_))
      refine pk_le 2 1 (fun z => absurd z (by omega)) (fun _ => pk_eq 1 1 (fun _ => nm_r (e' := nI 2) rfl ?_) (fun z => absurd rfl z))
      exact pk_le 2 2 (fun _ => H0 hb b3 b4 b5 hR') (fun z => absurd z (by omega))
theorem se_s72 {post : Int32 → St2 → Prop} {U x w : Nat} (fi sn : Nat) (hf : fi < 2) (hs : sn < 2) (hR : se_R k c d a2 a3 a4 a5) (hU : U ≤ 12) (h2 : a2 U = nI 10) (hw : w ≤ 10) (hx : x ≤ w)
    (hp : ∀ b3 b4 b5, se_R (se_u (se_u k (2 * U) fi) (2 * U + 1) sn) (se_u (se_u c (2 * U) x) (2 * U + 1) (w - x)) (se_u (se_u d (2 * U) x) (2 * U + 1) (10 - x)) a2 b3 b4 b5 → post 1 (2, f1, f2, f3, a1, a2, b3, b4, b5, a6, a7, a8, a9, a10)) :
    wX_placeSplit_72 post (nI U) (nI x) (nI w) 10 (nI sn) (nI fi) 2 f1 f2 f3 a1 a2 a3 a4 a5 a6 a7 a8 a9 a10 := by
  have e : (2 : Int32) * nI U = nI (2 * U) := pk_mul 2 U
  have h2' : a2 (2 * U / 2) = nI 10 := by
    rw [show 2 * U / 2 = U by omega]
    exact h2
  have h3' : a2 ((2 * U + 1) / 2) = nI 10 := by
    rw [show (2 * U + 1) / 2 = U by omega]
    exact h2
  have ed : (10 : Int32) - nI x = nI (10 - x) := pk_sub (a := 10) (by omega)
  unfold wX_placeSplit_72
  rw [e, nI_1, pk_sub hx, ed]
  exact pk_le 0 fi (fun _ => se_set (by omega) (se_set (by omega) (hp _ _ _ (se_R_set (se_R_set hR hf h2' (by omega) (by omega)) hs h3' (by omega) (by omega))))) (fun z => absurd z (by omega))
theorem se_s9b {post : Int32 → St2 → Prop} {U x w : Nat} {s : Int32} (hR : se_R k c d a2 a3 a4 a5) (hU : U ≤ 12) (hk : k (2 * U) = 2) (hk1 : k (2 * U + 1) = 2) (h2 : a2 U = nI 10) (hw : w ≤ 10) (hx : x ≤ w)
    (HB : se_pass (se_u k (2 * U) 1) (se_u c (2 * U) x) (se_u d (2 * U) x) 1 = true → se_pass (se_u k (2 * U + 1) 0) (se_u c (2 * U + 1) (w - x)) (se_u d (2 * U + 1) (10 - x)) 0 = true → ∀ b3 b4 b5, se_R (se_u (se_u k (2 * U) 1) (2 * U + 1) 0) (se_u (se_u c (2 * U) x) (2 * U + 1) (w - x)) (se_u (se_u d (2 * U) x) (2 * U + 1) (10 - x)) a2 b3 b4 b5 → post 1 (2, f1, f2, f3, a1, a2, b3, b4, b5, a6, a7, a8, a9, a10))
    (HC : ¬ (se_pass (se_u k (2 * U) 1) (se_u c (2 * U) x) (se_u d (2 * U) x) 1 = true ∧ se_pass (se_u k (2 * U + 1) 0) (se_u c (2 * U + 1) (w - x)) (se_u d (2 * U + 1) (10 - x)) 0 = true) → ∀ b3 b4 b5, se_R k c d a2 b3 b4 b5 → post 0 (2, f1, f2, f3, a1, a2, b3, b4, b5, a6, a7, a8, a9, a10)) :
    wX_placeSplit_9 post (nI U) (nI x) (nI w) 10 3 s (-1) 1 2 f1 f2 f3 a1 a2 a3 a4 a5 a6 a7 a8 a9 a10 := by
  have e : (2 : Int32) * nI U = nI (2 * U) := pk_mul 2 U
  have h2' : a2 (2 * U / 2) = nI 10 := by
    rw [show 2 * U / 2 = U by omega]
    exact h2
  have ed : (10 : Int32) - nI x = nI (10 - x) := pk_sub (a := 10) (by omega)
  refine pk_le 2 1 (fun z => absurd z (by omega)) (fun _ => br_f (by decide) ?_)
  rw [e]
  cases hb : se_pass (se_u k (2 * U) 1) (se_u c (2 * U) x) (se_u d (2 * U) x) 1 with
  | false =>
    refine se_pw0 (co := 1) (by omega) hR (by omega) hk h2' (by omega) (by omega) hb (fun b3 b4 b5 hR' => br_t rfl (nm_r (e' := nI 2) rfl ?_))
    exact pk_le 2 2 (fun _ => br_f (by decide) (HC (fun z => absurd (hb.symm.trans z.1) (by decide)) _ _ _ hR')) (fun z => absurd z (by omega))
  | true =>
    refine se_pw1 (co := 1) (by omega) hR (by omega) hk h2' (by omega) (by omega) hb (fun b3 b4 b5 hR' => br_f (by decide) ?_)
    rw [pk_sub hx, ed]
    refine se_cfr (x := w - x) (y := 10 - x) 1 0 (Or.inr ⟨rfl, rfl⟩) hR' hU hk1 h2 (by omega) (by omega) (fun hq b3 b4 b5 hR' => ?_) (fun hq b3 b4 b5 hR' => ?_)
    · refine br_f (by decide) (nm_r (e' := nI 2) rfl ?_)
      exact pk_le 2 2 (fun _ => se_s72 1 0 (by omega) (by omega) hR' hU h2 hw hx (HB hb hq)) (fun z => absurd z (by omega))
    · refine br_t (by decide) (nm_r (e' := nI 2) rfl ?_)
      exact pk_le 2 2 (fun _ => br_f (by decide) (HC (fun z => absurd (hq.symm.trans z.2) (by decide)) _ _ _ hR')) (fun z => absurd z (by omega))
theorem se_split {post : Int32 → St2 → Prop} {U x w : Nat} (hR : se_R k c d a2 a3 a4 a5) (hU : U ≤ 12) (hk : k (2 * U) = 2) (hk1 : k (2 * U + 1) = 2) (h2 : a2 U = nI 10) (hw : w ≤ 10) (hx : x ≤ w)
    (HA : se_pass (se_u k (2 * U) 0) (se_u c (2 * U) x) (se_u d (2 * U) x) 0 = true → se_pass (se_u k (2 * U + 1) 1) (se_u c (2 * U + 1) (w - x)) (se_u d (2 * U + 1) (10 - x)) 1 = true → ∀ b3 b4 b5, se_R (se_u (se_u k (2 * U) 0) (2 * U + 1) 1) (se_u (se_u c (2 * U) x) (2 * U + 1) (w - x)) (se_u (se_u d (2 * U) x) (2 * U + 1) (10 - x)) a2 b3 b4 b5 → post 1 (2, f1, f2, f3, a1, a2, b3, b4, b5, a6, a7, a8, a9, a10))
    (HB : ¬ (se_pass (se_u k (2 * U) 0) (se_u c (2 * U) x) (se_u d (2 * U) x) 0 = true ∧ se_pass (se_u k (2 * U + 1) 1) (se_u c (2 * U + 1) (w - x)) (se_u d (2 * U + 1) (10 - x)) 1 = true) → se_pass (se_u k (2 * U) 1) (se_u c (2 * U) x) (se_u d (2 * U) x) 1 = true → se_pass (se_u k (2 * U + 1) 0) (se_u c (2 * U + 1) (w - x)) (se_u d (2 * U + 1) (10 - x)) 0 = true → ∀ b3 b4 b5, se_R (se_u (se_u k (2 * U) 1) (2 * U + 1) 0) (se_u (se_u c (2 * U) x) (2 * U + 1) (w - x)) (se_u (se_u d (2 * U) x) (2 * U + 1) (10 - x)) a2 b3 b4 b5 → post 1 (2, f1, f2, f3, a1, a2, b3, b4, b5, a6, a7, a8, a9, a10))
    (HC : ¬ (se_pass (se_u k (2 * U) 0) (se_u c (2 * U) x) (se_u d (2 * U) x) 0 = true ∧ se_pass (se_u k (2 * U + 1) 1) (se_u c (2 * U + 1) (w - x)) (se_u d (2 * U + 1) (10 - x)) 1 = true) → ¬ (se_pass (se_u k (2 * U) 1) (se_u c (2 * U) x) (se_u d (2 * U) x) 1 = true ∧ se_pass (se_u k (2 * U + 1) 0) (se_u c (2 * U + 1) (w - x)) (se_u d (2 * U + 1) (10 - x)) 0 = true) → ∀ b3 b4 b5, se_R k c d a2 b3 b4 b5 → post 0 (2, f1, f2, f3, a1, a2, b3, b4, b5, a6, a7, a8, a9, a10)) :
    wpX_placeSplit post (2, f1, f2, f3, a1, a2, a3, a4, a5, a6, a7, a8, a9, a10) (nI U) (nI x) (nI w) 10 := by
  have e : (2 : Int32) * nI U = nI (2 * U) := pk_mul 2 U
  have h2' : a2 (2 * U / 2) = nI 10 := by
    rw [show 2 * U / 2 = U by omega]
    exact h2
  have ed : (10 : Int32) - nI x = nI (10 - x) := pk_sub (a := 10) (by omega)
  refine ⟨4, ?_⟩
  refine pk_le 2 0 (fun z => absurd z (by omega)) (fun _ => br_f (by decide) ?_)
  rw [e]
  cases hb : se_pass (se_u k (2 * U) 0) (se_u c (2 * U) x) (se_u d (2 * U) x) 0 with
  | false =>
    have hn : ¬ (se_pass (se_u k (2 * U) 0) (se_u c (2 * U) x) (se_u d (2 * U) x) 0 = true ∧ se_pass (se_u k (2 * U + 1) 1) (se_u c (2 * U + 1) (w - x)) (se_u d (2 * U + 1) (10 - x)) 1 = true) := fun z => absurd (hb.symm.trans z.1) (by decide)
    refine se_pw0 (co := 0) (by omega) hR (by omega) hk h2' (by omega) (by omega) hb (fun b3 b4 b5 hR' => br_t rfl (nm_r (e' := nI 1) rfl ?_))
    exact se_s9b hR' hU hk hk1 h2 hw hx (HB hn) (HC hn)
  | true =>
    refine se_pw1 (co := 0) (by omega) hR (by omega) hk h2' (by omega) (by omega) hb (fun b3 b4 b5 hR' => br_f (by decide) ?_)
    rw [pk_sub hx, ed]
    refine se_cfr (x := w - x) (y := 10 - x) 0 1 (Or.inl ⟨rfl, rfl⟩) hR' hU hk1 h2 (by omega) (by omega) (fun hq b3 b4 b5 hR' => ?_) (fun hq b3 b4 b5 hR' => ?_)
    · refine br_f (by decide) (nm_r (e' := nI 1) rfl ?_)
      refine pk_le 2 1 (fun z => absurd z (by omega)) (fun _ => br_t (by decide) ?_)
      exact se_s72 0 1 (by omega) (by omega) hR' hU h2 hw hx (HA hb hq)
    · have hn : ¬ (se_pass (se_u k (2 * U) 0) (se_u c (2 * U) x) (se_u d (2 * U) x) 0 = true ∧ se_pass (se_u k (2 * U + 1) 1) (se_u c (2 * U + 1) (w - x)) (se_u d (2 * U + 1) (10 - x)) 1 = true) := fun z => absurd (hq.symm.trans z.2) (by decide)
      refine br_t (by decide) (nm_r (e' := nI 1) rfl ?_)
      exact se_s9b hR' hU hk hk1 h2 hw hx (HB hn) (HC hn)
end
section
variable {f0 f1 f2 f3 : Int32} {a1 a2 a3 a4 a5 a6 a7 a8 a9 a10 : Nat → Int32}
variable {k c d : Nat → Nat} {co : Nat}
def se_Us (U : Nat) (a1 : Nat → Int32) : Prop := ∀ j, j < 13 → a1 j = if j < U then 1 else 0
theorem se_Us_add {U : Nat} (h : se_Us U a1) : se_Us (U + 1) (upd a1 U 1) := by
  intro j hj
  by_cases e : j = U
  · rw [e, pk_us, if_pos (by omega)]
  · rw [pk_un e, h j hj]
    by_cases g : j < U
    · rw [if_pos g, if_pos (by omega)]
    · rw [if_neg g, if_neg (by omega)]
theorem se_Us_sub {U : Nat} (h : se_Us (U + 1) a1) : se_Us U (upd a1 U 0) := by
  intro j hj
  by_cases e : j = U
  · rw [e, pk_us, if_neg (by omega)]
  · rw [pk_un e, h j hj]
    by_cases g : j < U
    · rw [if_pos g, if_pos (by omega)]
    · rw [if_neg g, if_neg (by omega)]
theorem se_free {post : Int32 → Prop} {U : Nat} (hUs : se_Us U a1) (hU : U ≤ 11) (hp : post (nI U)) : wpX_freeId post (f0, f1, f2, f3, a1, a2, a3, a4, a5, a6, a7, a8, a9, a10) := by
  have H : ∃ n, wX_freeId_2 post f0 f1 f2 f3 a1 a2 a3 a4 a5 a6 a7 a8 a9 a10 n 0 := by
    refine pk_loop (σ := Unit) (fun n i _ => wX_freeId_2 post f0 f1 f2 f3 a1 a2 a3 a4 a5 a6 a7 a8 a9 a10 n (nI i)) (fun _ _ => True) U 0 () (by omega) trivial (fun n _ _ => ?_) (fun n i _ hi _ hw => ?_)
    · refine pk_le 12 U (fun z => absurd z (by omega)) (fun _ => ⟨pk_in U 13 (by omega), br_t ?_ hp⟩)
      rw [nI_clamp (by omega), hUs U (by omega), if_neg (by omega)]
    · refine pk_le 12 i (fun z => absurd z (by omega)) (fun _ => ⟨pk_in i 13 (by omega), br_f ?_ (nm_r (nI_1 i) (hw () trivial))⟩)
      rw [nI_clamp (by omega), hUs i (by omega), if_pos hi]
      decide
  exact H
theorem se_bp {post : Int32 → Prop} (hp : post 0) : wpX_badPeriod post () 10 := br_f (by decide) (br_f (by decide) ⟨by decide, br_t (by decide) hp⟩)
theorem se_107 {post : Int32 → St2 → Prop} {U : Nat} (hU : U ≤ 11) (hp : post (nI U) (2, nI (U + 1), -1, f3, upd a1 U 1, a2, a3, a4, a5, a6, a7, a8, a9, a10)) : wX_admit_107 post (nI U) 1 2 (nI U) f2 f3 a1 a2 a3 a4 a5 a6 a7 a8 a9 a10 :=
  br_f (by decide) ⟨pk_in U 13 (by omega), se_up (by omega) (nm_r (nI_1 U) hp)⟩
theorem se_78d {post : Int32 → St2 → Prop} {U n : Nat} {x1 x2 x6 : Int32} (hU : U ≤ 11) (hp : post (nI U) (2, nI (U + 1), -1, f3, upd a1 U 1, a2, a3, a4, a5, a6, a7, a8, a9, a10)) : wX_admit_78 post x1 x2 (nI U) (n + 1) 1 x6 2 (nI U) f2 f3 a1 a2 a3 a4 a5 a6 a7 a8 a9 a10 :=
  br_c (fun _ => se_107 hU hp) (fun _ => br_f (by decide) (se_107 hU hp))
theorem se_adm {post : Int32 → St2 → Prop} {U w : Nat} (hR : se_R k c d a2 a3 a4 a5) (hUs : se_Us U a1) (hU : U ≤ 11) (hk : k (2 * U) = 2) (hw1 : 1 ≤ w) (hw : w ≤ 10)
    (H0 : se_pass (se_u k (2 * U) 0) (se_u c (2 * U) w) (se_u d (2 * U) 10) 0 = true → ∀ b3 b4 b5, se_R (se_u k (2 * U) 0) (se_u c (2 * U) w) (se_u d (2 * U) 10) (upd a2 U (nI 10)) b3 b4 b5 → post (nI U) (2, nI (U + 1), -1, f3, upd a1 U 1, upd a2 U (nI 10), b3, b4, b5, a6, a7, a8, a9, a10))
    (H1 : se_pass (se_u k (2 * U) 0) (se_u c (2 * U) w) (se_u d (2 * U) 10) 0 = false → se_pass (se_u k (2 * U) 1) (se_u c (2 * U) w) (se_u d (2 * U) 10) 1 = true → ∀ b3 b4 b5, se_R (se_u k (2 * U) 1) (se_u c (2 * U) w) (se_u d (2 * U) 10) (upd a2 U (nI 10)) b3 b4 b5 → post (nI U) (2, nI (U + 1), -1, f3, upd a1 U 1, upd a2 U (nI 10), b3, b4, b5, a6, a7, a8, a9, a10))
    (H2 : se_pass (se_u k (2 * U) 0) (se_u c (2 * U) w) (se_u d (2 * U) 10) 0 = false → se_pass (se_u k (2 * U) 1) (se_u c (2 * U) w) (se_u d (2 * U) 10) 1 = false → ∀ b3 b4 b5, se_R k c d (upd a2 U (nI 10)) b3 b4 b5 → ∃ n, wX_admit_78 post (nI w) 10 (nI U) n 0 (nI (w - 1)) 2 (nI U) f2 f3 a1 (upd a2 U (nI 10)) b3 b4 b5 a6 a7 a8 a9 a10) :
    wpX_admit post (2, nI U, f2, f3, a1, a2, a3, a4, a5, a6, a7, a8, a9, a10) (nI w) 10 10 := by
  unfold wpX_admit
  refine se_bp (br_t rfl (pk_lt w 1 (fun z => absurd z (by omega)) (fun _ => pk_lt 10 w (fun z => absurd z (by omega)) (fun _ => br_f (by decide) (br_f (by decide) (pk_le w 10 (fun _ => pk_lt U 12 (fun _ => ?_) (fun z => absurd z (by omega))) (fun z => absurd z (by omega))))))))
  have ew : nI w - 1 = nI (w - 1) := pk_sub hw1
  refine se_free hUs hU ⟨pk_in U 13 (by omega), se_up (by omega) ?_⟩
  refine se_pwh (se_R_per (U := U) hR) (by omega) hk pk_us hw (fun p b3 b4 b5 hR' => ?_) (fun p q b3 b4 b5 hR' => ?_) (fun p q b3 b4 b5 hR' => ?_)
  · exact nm_r ew ⟨1, se_78d hU (H0 p b3 b4 b5 hR')⟩
  · exact nm_r ew ⟨1, se_78d hU (H1 p q b3 b4 b5 hR')⟩
  · exact nm_r ew (H2 p q b3 b4 b5 hR')
theorem se_a78F {post : Int32 → St2 → Prop} {U w : Nat} (hU : U ≤ 12) (hk : k (2 * U) = 2) (hk1 : k (2 * U + 1) = 2) (h2 : a2 U = nI 10) (hw : w ≤ 10) (y n : Nat)
    (H : ∀ b3 b4 b5, se_R k c d a2 b3 b4 b5 → wX_admit_78 post (nI w) 10 (nI U) n 0 (nI y) 2 f1 f2 f3 a1 a2 b3 b4 b5 a6 a7 a8 a9 a10) :
    ∀ m, y + m ≤ w → (∀ x, y < x → x ≤ y + m → ¬ (se_pass (se_u k (2 * U) 0) (se_u c (2 * U) x) (se_u d (2 * U) x) 0 = true ∧ se_pass (se_u k (2 * U + 1) 1) (se_u c (2 * U + 1) (w - x)) (se_u d (2 * U + 1) (10 - x)) 1 = true) ∧ ¬ (se_pass (se_u k (2 * U) 1) (se_u c (2 * U) x) (se_u d (2 * U) x) 1 = true ∧ se_pass (se_u k (2 * U + 1) 0) (se_u c (2 * U + 1) (w - x)) (se_u d (2 * U + 1) (10 - x)) 0 = true)) → ∀ b3 b4 b5, se_R k c d a2 b3 b4 b5 → wX_admit_78 post (nI w) 10 (nI U) (n + m) 0 (nI (y + m)) 2 f1 f2 f3 a1 a2 b3 b4 b5 a6 a7 a8 a9 a10 := by
  intro m
  induction m with
  | zero => exact fun _ _ => H
  | succ m ih =>
    intro hm hf b3 b4 b5 hR
    have hz := hf (y + (m + 1)) (by omega) (by omega)
    refine pk_lt (y + (m + 1)) 1 (fun z => absurd z (by omega)) (fun _ => br_t rfl ?_)
    refine se_split hR hU hk hk1 h2 hw hm (fun p q => absurd ⟨p, q⟩ hz.1) (fun _ p q => absurd ⟨p, q⟩ hz.2) (fun _ _ b3 b4 b5 hR' => nm_r (pk_m1 (y + m)) (ih (by omega) (fun x h1 h2 => hf x h1 (by omega)) b3 b4 b5 hR'))
end
end
section
section
variable {f0 f1 f2 f3 : Int32} {a1 a2 a3 a4 a5 a6 a7 a8 a9 a10 : Nat → Int32}
variable {k c d l r : Nat → Nat} {co : Nat}
theorem se_a51 {post : St2 → Prop} {i q ci : Nat} (hi : i < 26) (h9 : a9 i = nI q) (h4 : a4 i = nI ci) (h2 : a2 (i / 2) = nI 10) (hq : q ≤ 60) (hp : post (f0, f1, f2, f3, a1, a2, a3, a4, a5, a6, a7, upd a8 i (nI (if 60 ≤ q + 10 then 0 else ci)), upd a9 i (nI (q + 10)), a10)) : wX_advance_51 post (nI i) f0 f1 f2 f3 a1 a2 a3 a4 a5 a6 a7 a8 a9 a10 := by
  have n : vp_in (nI i) 26 := pk_in i 26 hi
  have ec : (nI i).toNatClampNeg = i := nI_clamp (by omega)
  have e2 : nI i / 2 = nI (i / 2) := pk_div (a := i) (d := 2) (by omega) (by decide) (by decide)
  unfold wX_advance_51
  rw [ec, e2, nI_clamp (show i / 2 < 2 ^ 31 by omega), h9, h2, nI_add, h4]
  refine ⟨n, by decide, pk_in (i / 2) 13 (by omega), n, nm_e ⟨n, ?_⟩⟩
  rw [pk_us]
  refine pk_le 60 (q + 10) (fun z => ⟨n, nm_e ?_⟩) (fun z => ⟨n, n, nm_e ?_⟩)
  · rw [if_pos z] at hp
    exact hp
  · rw [if_neg (by omega)] at hp
    exact hp
theorem se_adv {post : St2 → Prop} {i now e lv q s ci : Nat} (hi : i < 26) (h8 : a8 i = nI lv) (h9 : a9 i = nI q) (h10 : a10 i = nI s) (h4 : a4 i = nI ci) (h2 : a2 (i / 2) = nI 10) (hl : now + lv = e) (hq : q ≤ e) (he : e ≤ 60) (hs : s ≤ 60)
    (hp : ∀ b8 b9 b10, b8 i = nI (if 60 ≤ q + 10 then 0 else ci) → b9 i = nI (q + 10) → b10 i = nI (if e - q ≤ s then s else e - q) → (∀ j, j ≠ i → b8 j = a8 j ∧ b9 j = a9 j ∧ b10 j = a10 j) → post (f0, f1, f2, f3, a1, a2, a3, a4, a5, a6, a7, b8, b9, b10)) :
    wpX_advance post (f0, f1, f2, f3, a1, a2, a3, a4, a5, a6, a7, a8, a9, a10) (nI i) (nI now) (nI e) := by
  have n : vp_in (nI i) 26 := pk_in i 26 hi
  have ec : (nI i).toNatClampNeg = i := nI_clamp (by omega)
  have ev : nI lv - (nI e - nI now) = nI 0 := by
    rw [pk_sub (by omega), pk_sub (by omega), show lv - (e - now) = 0 by omega]
  unfold wpX_advance
  dsimp only
  rw [ec, h8, ev, h9, h10, pk_sub hq]
  refine ⟨n, n, nm_e ⟨n, ?_⟩⟩
  rw [pk_us]
  refine br_t (by decide) ⟨n, nm_e ⟨n, pk_le (e - q) s (fun z => ?_) (fun z => ⟨n, nm_e ?_⟩)⟩⟩
  · refine se_a51 hi h9 h4 h2 (by omega) (hp _ _ _ pk_us pk_us ?_ ?_)
    · rw [if_pos z]
      exact h10
    · intro j hj
      rw [pk_un hj, pk_un hj, pk_un hj]
      exact ⟨rfl, rfl, rfl⟩
  · refine se_a51 hi h9 h4 h2 (by omega) (hp _ _ _ pk_us pk_us ?_ ?_)
    · rw [if_neg (by omega), pk_us]
    · intro j hj
      rw [pk_un hj, pk_un hj, pk_un hj, pk_un hj]
      exact ⟨rfl, rfl, rfl⟩
/-- one place of the scan for the most urgent job and the next release: (best + 1 or 0, next) -/
def se_scg (l r d : Nat → Nat) (now : Nat) (i : Nat) (s : Nat × Nat) : Nat × Nat :=
  (if 0 < l i ∧ r i ≤ now ∧ (s.1 = 0 ∨ r i + d i < r (s.1 - 1) + d (s.1 - 1)) then i + 1 else s.1, min s.2 (if 0 < l i ∧ now < r i then r i else r i + 10))
def se_B (b : Nat) : Int32 := if b = 0 then -1 else nI (b - 1)
theorem se_B0 : se_B 0 = -1 := rfl
theorem se_Bs (i : Nat) : se_B (i + 1) = nI i := by
  unfold se_B
  rw [if_neg (by omega), Nat.add_sub_cancel]
theorem se_Bn {b : Nat} (h : b ≠ 0) : se_B b = nI (b - 1) := if_neg h
def se_A (l r k d : Nat → Nat) (co : Nat) (a2 a5 a8 a9 : Nat → Int32) : Prop := ∀ i, i < 26 → k i = co → a8 i = nI (l i) ∧ a9 i = nI (r i) ∧ a5 i = nI (d i) ∧ a2 (i / 2) = nI 10 ∧ l i ≤ 60 ∧ r i ≤ 60 ∧ d i ≤ 10
theorem se_91 {post : Int32 → St2 → Prop} {J : Int32 → Int32 → Int32 → Prop} {i b x now : Nat} (hA : se_A l r k d co a2 a5 a8 a9) (hi : i < 26) (hk : k i = co) (hb : b = 0 ∨ b - 1 < 26 ∧ k (b - 1) = co) (hn : now ≤ 60)
    (hJ : J (se_B (if 0 < l i ∧ r i ≤ now ∧ (b = 0 ∨ r i + d i < r (b - 1) + d (b - 1)) then i + 1 else b)) (nI x) (nI (i + 1))) :
    wX_stretch_91 post J (nI co) (nI now) (se_B b) (nI x) (nI i) f0 f1 f2 f3 a1 a2 a3 a4 a5 a6 a7 a8 a9 a10 := by
  have n : vp_in (nI i) 26 := pk_in i 26 hi
  have ec : (nI i).toNatClampNeg = i := nI_clamp (by omega)
  obtain ⟨h8, h9, h5, h2, hl, hr, hd⟩ := hA i hi hk
  unfold wX_stretch_91
  rw [ec, h8, h9, h5]
  refine ⟨n, pk_le (l i) 0 (fun z => nm_r (nI_1 i) ?_) (fun z => ⟨n, pk_lt now (r i) (fun z2 => nm_r (nI_1 i) ?_) (fun z2 => ?_)⟩)⟩
  · rw [if_neg (by omega)] at hJ
    exact hJ
  · rw [if_neg (by omega)] at hJ
    exact hJ
  · by_cases hb0 : b = 0
    · rw [if_pos ⟨z, z2, Or.inl hb0⟩, se_Bs] at hJ
      rw [hb0]
      exact br_t (by decide) (nm_r (nI_1 i) hJ)
    · rcases hb with hb | ⟨hb1, hb2⟩
      · exact absurd hb hb0
      · obtain ⟨g8, g9, g5, g2, gl, gr, gd⟩ := hA (b - 1) hb1 hb2
        have m : vp_in (nI (b - 1)) 26 := pk_in (b - 1) 26 hb1
        rw [se_Bn hb0, nI_clamp (show b - 1 < 2 ^ 31 by omega), g9, g5, nI_add, nI_add]
        refine br_f (nI_pos (by omega)) ⟨n, n, m, m, pk_le (r (b - 1) + d (b - 1)) (r i + d i) (fun z3 => nm_r (nI_1 i) ?_) (fun z3 => nm_r (nI_1 i) ?_)⟩
        · rw [if_neg (by omega), se_Bn hb0] at hJ
          exact hJ
        · rw [if_pos ⟨z, z2, Or.inr z3⟩, se_Bs] at hJ
          exact hJ
theorem se_78 {post : Int32 → St2 → Prop} {J : Int32 → Int32 → Int32 → Prop} {i b x now : Nat} (y : Nat) (hA : se_A l r k d co a2 a5 a8 a9) (hi : i < 26) (hk : k i = co) (hb : b = 0 ∨ b - 1 < 26 ∧ k (b - 1) = co) (hn : now ≤ 60) (hx : x ≤ 60) (hy : y ≤ 70)
    (hJ : J (se_B (if 0 < l i ∧ r i ≤ now ∧ (b = 0 ∨ r i + d i < r (b - 1) + d (b - 1)) then i + 1 else b)) (nI (min x y)) (nI (i + 1))) :
    wX_stretch_78 post J (nI co) (nI now) (se_B b) (nI x) (nI i) (nI y) f0 f1 f2 f3 a1 a2 a3 a4 a5 a6 a7 a8 a9 a10 := by
  refine pk_le x y (fun z => ?_) (fun z => ?_)
  · rw [Nat.min_eq_left z] at hJ
    exact se_91 hA hi hk hb hn hJ
  · rw [Nat.min_eq_right (by omega)] at hJ
    exact se_91 hA hi hk hb hn hJ
theorem se_61 {post : Int32 → St2 → Prop} {J : Int32 → Int32 → Int32 → Prop} {i b x now : Nat} (hA : se_A l r k d co a2 a5 a8 a9) (hi : i < 26) (hk : k i = co) (hb : b = 0 ∨ b - 1 < 26 ∧ k (b - 1) = co) (hn : now ≤ 60) (hx : x ≤ 60)
    (hJ : J (se_B (if 0 < l i ∧ r i ≤ now ∧ (b = 0 ∨ r i + d i < r (b - 1) + d (b - 1)) then i + 1 else b)) (nI (min x (r i + 10))) (nI (i + 1))) :
    wX_stretch_61 post J (nI co) (nI now) (se_B b) (nI x) (nI i) f0 f1 f2 f3 a1 a2 a3 a4 a5 a6 a7 a8 a9 a10 := by
  have e2 : nI i / 2 = nI (i / 2) := pk_div (a := i) (d := 2) (by omega) (by decide) (by decide)
  obtain ⟨h8, h9, h5, h2, hl, hr, hd⟩ := hA i hi hk
  unfold wX_stretch_61
  rw [nI_clamp (show i < 2 ^ 31 by omega), e2, nI_clamp (show i / 2 < 2 ^ 31 by omega), h9, h2, nI_add]
  exact ⟨pk_in i 26 hi, by decide, pk_in (i / 2) 13 (by omega), se_78 (r i + 10) hA hi hk hb hn hx (by omega) hJ⟩
theorem se_scI (l r k d : Nat → Nat) (co now : Nat) : ∀ n, n ≤ 26 → (fun (_ : Nat) (s : Nat × Nat) => s.2 ≤ 60 ∧ (s.1 = 0 ∨ s.1 - 1 < 26 ∧ k (s.1 - 1) = co)) n (se_fo (se_on k co (se_scg l r d now)) (0, 60) n) := by
  refine se_foJ (fun (_ : Nat) (s : Nat × Nat) => s.2 ≤ 60 ∧ (s.1 = 0 ∨ s.1 - 1 < 26 ∧ k (s.1 - 1) = co)) 26 ⟨Nat.le_refl 60, Or.inl rfl⟩ (fun i s hi hs => ?_)
  by_cases hk : k i = co
  · rw [se_on_t hk]
    unfold se_scg
    refine ⟨?_, ?_⟩
    · exact Nat.le_trans (Nat.min_le_left _ _) hs.1
    · dsimp only
      split
      · exact Or.inr ⟨by omega, by rw [Nat.add_sub_cancel]; exact hk⟩
      · exact hs.2
  · rw [se_on_f hk]
    exact hs
theorem se_scan {post : Int32 → St2 → Prop} {now b e : Nat} (hco : co < 2) (hR : se_R k c d a2 a3 a4 a5) (hA : se_A l r k d co a2 a5 a8 a9) (hn : now ≤ 60) (hF : se_fo (se_on k co (se_scg l r d now)) (0, 60) 26 = (b, e))
    (hp : ∀ n, wX_stretch_9 post (nI co) (nI now) f0 f1 f2 f3 a1 a2 a3 a4 a5 a6 a7 a8 a9 a10 (n + 1) (se_B b) (nI e) 26) : wpX_stretch post (f0, f1, f2, f3, a1, a2, a3, a4, a5, a6, a7, a8, a9, a10) (nI co) (nI now) := by
  have H : ∃ n, wX_stretch_9 post (nI co) (nI now) f0 f1 f2 f3 a1 a2 a3 a4 a5 a6 a7 a8 a9 a10 n (-1) 60 0 := by
    refine pk_loop (σ := Unit) (fun n i _ => wX_stretch_9 post (nI co) (nI now) f0 f1 f2 f3 a1 a2 a3 a4 a5 a6 a7 a8 a9 a10 n (se_B (se_fo (se_on k co (se_scg l r d now)) (0, 60) i).1) (nI (se_fo (se_on k co (se_scg l r d now)) (0, 60) i).2) (nI i)) (fun _ _ => True) 26 0 () (by omega) trivial (fun n _ _ => ?_) (fun n i _ hi _ hw => ?_)
    · rw [hF]
      exact hp n
    · have hI := se_scI l r k d co now i (by omega)
      have hw' : wX_stretch_9 post (nI co) (nI now) f0 f1 f2 f3 a1 a2 a3 a4 a5 a6 a7 a8 a9 a10 n (se_B (se_on k co (se_scg l r d now) i (se_fo (se_on k co (se_scg l r d now)) (0, 60) i)).1) (nI (se_on k co (se_scg l r d now) i (se_fo (se_on k co (se_scg l r d now)) (0, 60) i)).2) (nI (i + 1)) := hw () trivial
      dsimp only at hI
      generalize se_fo (se_on k co (se_scg l r d now)) (0, 60) i = s at hI hw' ⊢
      obtain ⟨sb, sx⟩ := s
      obtain ⟨hs2, hs1⟩ := hI
      dsimp only at hs1 hs2 ⊢
      have n' : vp_in (nI i) 26 := pk_in i 26 hi
      have ec : (nI i).toNatClampNeg = i := nI_clamp (by omega)
      obtain ⟨h3, -⟩ := hR i hi
      refine pk_le 26 i (fun z => absurd z (by omega)) (fun _ => ⟨n', ?_⟩)
      rw [ec, h3]
      refine ek_if (se_Kc hco) (fun hk => ?_) (fun hk => ?_)
      · rw [se_on_t hk] at hw'
        unfold se_scg at hw'
        dsimp only at hw'
        obtain ⟨h8, h9, h5, h2, hl, hr, hd⟩ := hA i hi hk
        rw [h8, h9]
        refine ⟨n', pk_le (l i) 0 (fun z => ?_) (fun z => ⟨n', pk_le (r i) now (fun z2 => ?_) (fun z2 => ⟨n', ?_⟩)⟩)⟩
        · rw [if_neg (show ¬ (0 < l i ∧ now < r i) by omega)] at hw'
          exact se_61 hA hi hk hs1 hn hs2 hw'
        · rw [if_neg (show ¬ (0 < l i ∧ now < r i) by omega)] at hw'
          exact se_61 hA hi hk hs1 hn hs2 hw'
        · rw [if_pos (show 0 < l i ∧ now < r i from ⟨z, z2⟩)] at hw'
          exact se_78 (r i) hA hi hk hs1 hn hs2 (by omega) hw'
      · rw [se_on_f hk] at hw'
        exact nm_r (nI_1 i) hw'
  exact H
theorem se_187N {post : Int32 → St2 → Prop} {m e : Nat} {x2 : Int32} (hm : m < 64) (hp : post (nI e) (f0, f1, f2, nI (m + 1), a1, a2, a3, a4, a5, upd a6 m (nI e), upd a7 m (-5), a8, a9, a10)) : wX_stretch_187 post x2 (-1) (nI e) f0 f1 f2 (nI m) a1 a2 a3 a4 a5 a6 a7 a8 a9 a10 :=
  ⟨pk_in m 64 hm, se_up (by omega) (br_f (by decide) ⟨pk_in m 64 hm, se_up (by omega) (nm_r (nI_1 m) (br_t (by decide) hp))⟩)⟩
theorem se_187R {post : Int32 → St2 → Prop} {m i now e lv q s ci : Nat} (hm : m < 64) (hi : i < 26) (h8 : a8 i = nI lv) (h9 : a9 i = nI q) (h10 : a10 i = nI s) (h4 : a4 i = nI ci) (h2 : a2 (i / 2) = nI 10) (hl : now + lv = e) (hq : q ≤ e) (he : e ≤ 60) (hs : s ≤ 60)
    (hp : ∀ b8 b9 b10, b8 i = nI (if 60 ≤ q + 10 then 0 else ci) → b9 i = nI (q + 10) → b10 i = nI (if e - q ≤ s then s else e - q) → (∀ j, j ≠ i → b8 j = a8 j ∧ b9 j = a9 j ∧ b10 j = a10 j) → post (nI e) (f0, f1, f2, nI (m + 1), a1, a2, a3, a4, a5, upd a6 m (nI e), upd a7 m (nI (i / 2)), b8, b9, b10)) :
    wX_stretch_187 post (nI now) (nI i) (nI e) f0 f1 f2 (nI m) a1 a2 a3 a4 a5 a6 a7 a8 a9 a10 := by
  have e2 : nI i / 2 = nI (i / 2) := pk_div (a := i) (d := 2) (by omega) (by decide) (by decide)
  unfold wX_stretch_187
  rw [e2]
  refine ⟨pk_in m 64 hm, se_up (by omega) (pk_le 0 i (fun _ => ⟨by decide, pk_in m 64 hm, se_up (by omega) (nm_r (nI_1 m) (br_f (nI_pos (by omega)) ?_))⟩) (fun z => absurd z (by omega)))⟩
  exact se_adv hi h8 h9 h10 h4 h2 hl hq he hs hp
theorem se_stN {post : Int32 → St2 → Prop} {m now e : Nat} (hco : co < 2) (hR : se_R k c d a2 a3 a4 a5) (hA : se_A l r k d co a2 a5 a8 a9) (hn : now ≤ 60) (hm : m < 64) (hF : se_fo (se_on k co (se_scg l r d now)) (0, 60) 26 = (0, e))
    (hp : post (nI e) (f0, f1, f2, nI (m + 1), a1, a2, a3, a4, a5, upd a6 m (nI e), upd a7 m (-5), a8, a9, a10)) : wpX_stretch post (f0, f1, f2, nI m, a1, a2, a3, a4, a5, a6, a7, a8, a9, a10) (nI co) (nI now) :=
  se_scan hco hR hA hn hF (fun n => pk_le 26 26 (fun _ => br_t (by decide) (se_187N hm hp)) (fun z => absurd z (by omega)))
theorem se_stR {post : Int32 → St2 → Prop} {m now i nx s lv rv : Nat} (hco : co < 2) (hR : se_R k c d a2 a3 a4 a5) (hA : se_A l r k d co a2 a5 a8 a9) (hn : now ≤ 60) (hm : m < 64) (hF : se_fo (se_on k co (se_scg l r d now)) (0, 60) 26 = (i + 1, nx))
    (hi : i < 26) (hk : k i = co) (el : l i = lv) (er : r i = rv) (h10 : a10 i = nI s) (hs : s ≤ 60) (hx : now + lv ≤ nx) (hx6 : nx ≤ 60) (hr : rv ≤ now)
    (hp : ∀ b8 b9 b10, b8 i = nI (if 60 ≤ rv + 10 then 0 else c i) → b9 i = nI (rv + 10) → b10 i = nI (if now + lv - rv ≤ s then s else now + lv - rv) → (∀ j, j ≠ i → b8 j = a8 j ∧ b9 j = a9 j ∧ b10 j = a10 j) → post (nI (now + lv)) (f0, f1, f2, nI (m + 1), a1, a2, a3, a4, a5, upd a6 m (nI (now + lv)), upd a7 m (nI (i / 2)), b8, b9, b10)) :
    wpX_stretch post (f0, f1, f2, nI m, a1, a2, a3, a4, a5, a6, a7, a8, a9, a10) (nI co) (nI now) := by
  obtain ⟨h8, h9, h5, h2, hl, hr6, hd⟩ := hA i hi hk
  obtain ⟨h4, -, -, -, -⟩ := (hR i hi).2 (by omega)
  rw [el] at h8 hl
  rw [er] at h9 hr6
  have n' : vp_in (nI i) 26 := pk_in i 26 hi
  have H : wX_stretch_187 post (nI now) (nI i) (nI (now + lv)) f0 f1 f2 (nI m) a1 a2 a3 a4 a5 a6 a7 a8 a9 a10 := se_187R hm hi h8 h9 h10 h4 h2 rfl (by omega) (by omega) hs hp
  refine se_scan hco hR hA hn hF (fun n => pk_le 26 26 (fun _ => ?_) (fun z => absurd z (by omega)))
  rw [se_Bs, nI_clamp (show i < 2 ^ 31 by omega), h8, nI_add]
  refine br_f (nI_pos (by omega)) ⟨n', pk_le nx (now + lv) (fun z => ?_) (fun z => ⟨n', nm_e H⟩)⟩
  rw [show nx = now + lv by omega]
  exact H
end
end
section
section
variable {k c d l r : Nat → Nat} {co i1 A x y : Nat} {a2 a3 a4 a5 b6 b7 b8 b9 b10 c10 : Nat → Int32}
/-- what the plan of a core holds after n stretches -/
def se_G (co i1 A x n : Nat) (a6 a7 a10 : Nat → Int32) : Prop :=
  (n = 0 → a10 i1 = nI 0) ∧ (n < 2 → a10 (2 * co) = nI 0) ∧ (1 ≤ n → a6 0 = nI x ∧ a7 0 = nI 2 ∧ a10 i1 = nI x) ∧ (2 ≤ n → a6 1 = nI (x + A) ∧ a7 1 = nI co ∧ a10 (2 * co) = nI (x + A)) ∧ (3 ≤ n → x + A < 10 → a6 2 = nI 10 ∧ a7 2 = -5)
theorem se_G0 {p n : Nat} (hn : n = 0 ∧ p = 0 ∨ 2 ≤ n ∧ (n = 2 → x + A = 10)) (hG : se_G co i1 A x n b6 b7 b10) (e10 : c10 i1 = nI x) (ej : c10 (2 * co) = b10 (2 * co)) (hi : i1 / 2 = 2) : se_G co i1 A x (n + 1) (upd b6 n (nI (10 * p + x))) (upd b7 n (nI (i1 / 2))) c10 := by
  obtain ⟨g0, g1, g2, g3, g4⟩ := hG
  rcases hn with ⟨rfl, rfl⟩ | ⟨hn, hn2⟩
  · refine ⟨fun z => absurd z (by omega), fun _ => ej.trans (g1 (by omega)), fun _ => ⟨?_, ?_, e10⟩, fun z => absurd z (by omega), fun z => absurd z (by omega)⟩
    · rw [pk_us, show 10 * 0 + x = x by omega]
    · rw [pk_us, hi]
  · refine ⟨fun z => absurd z (by omega), fun z => absurd z (by omega), fun _ => ⟨?_, ?_, e10⟩, fun _ => ⟨?_, ?_, ej.trans (g3 hn).2.2⟩, fun z hz => ⟨?_, ?_⟩⟩
    · rw [pk_un (by omega)]
      exact (g2 (by omega)).1
    · rw [pk_un (by omega)]
      exact (g2 (by omega)).2.1
    · rw [pk_un (by omega)]
      exact (g3 hn).1
    · rw [pk_un (by omega)]
      exact (g3 hn).2.1
    · rw [pk_un (by omega)]
      exact (g4 (by omega) hz).1
    · rw [pk_un (by omega)]
      exact (g4 (by omega) hz).2
theorem se_G1 {p n : Nat} (hn : n = 1 ∧ p = 0 ∨ 3 ≤ n) (hG : se_G co i1 A x n b6 b7 b10) (e10 : c10 (2 * co) = nI (x + A)) (ej : c10 i1 = b10 i1) : se_G co i1 A x (n + 1) (upd b6 n (nI (10 * p + x + A))) (upd b7 n (nI (2 * co / 2))) c10 := by
  obtain ⟨g0, g1, g2, g3, g4⟩ := hG
  have hh : 2 * co / 2 = co := by omega
  rcases hn with ⟨rfl, rfl⟩ | hn
  · refine ⟨fun z => absurd z (by omega), fun z => absurd z (by omega), fun _ => ⟨?_, ?_, ej.trans (g2 (by omega)).2.2⟩, fun _ => ⟨?_, ?_, e10⟩, fun z => absurd z (by omega)⟩
    · rw [pk_un (by omega)]
      exact (g2 (by omega)).1
    · rw [pk_un (by omega)]
      exact (g2 (by omega)).2.1
    · rw [pk_us, show 10 * 0 + x + A = x + A by omega]
    · rw [pk_us, hh]
  · refine ⟨fun z => absurd z (by omega), fun z => absurd z (by omega), fun _ => ⟨?_, ?_, ej.trans (g2 (by omega)).2.2⟩, fun _ => ⟨?_, ?_, e10⟩, fun z hz => ⟨?_, ?_⟩⟩
    · rw [pk_un (by omega)]
      exact (g2 (by omega)).1
    · rw [pk_un (by omega)]
      exact (g2 (by omega)).2.1
    · rw [pk_un (by omega)]
      exact (g3 (by omega)).1
    · rw [pk_un (by omega)]
      exact (g3 (by omega)).2.1
    · rw [pk_un (by omega)]
      exact (g4 hn hz).1
    · rw [pk_un (by omega)]
      exact (g4 hn hz).2
theorem se_G2 {p n : Nat} (hn : n = 2 ∧ p = 0 ∨ 3 ≤ n) (hG : se_G co i1 A x n b6 b7 b10) : se_G co i1 A x (n + 1) (upd b6 n (nI (10 * p + 10))) (upd b7 n (-5)) b10 := by
  obtain ⟨g0, g1, g2, g3, g4⟩ := hG
  have hn2 : 2 ≤ n := by omega
  refine ⟨fun z => absurd z (by omega), fun z => absurd z (by omega), fun _ => ⟨?_, ?_, (g2 (by omega)).2.2⟩, fun _ => ⟨?_, ?_, (g3 hn2).2.2⟩, fun z hz => ?_⟩
  · rw [pk_un (by omega)]
    exact (g2 (by omega)).1
  · rw [pk_un (by omega)]
    exact (g2 (by omega)).2.1
  · rw [pk_un (by omega)]
    exact (g3 hn2).1
  · rw [pk_un (by omega)]
    exact (g3 hn2).2.1
  · rcases hn with ⟨rfl, rfl⟩ | hn
    · rw [pk_us, pk_us]
      exact ⟨rfl, rfl⟩
    · rw [pk_un (by omega), pk_un (by omega)]
      exact g4 hn hz
/-- what is left and when it is released, of the core's two parts -/
def se_V (co i1 l0 l1 r0 r1 : Nat) (a8 a9 : Nat → Int32) : Prop := a8 (2 * co) = nI l0 ∧ a9 (2 * co) = nI r0 ∧ a8 i1 = nI l1 ∧ a9 i1 = nI r1
def se_lr (co v0 v1 : Nat) : Nat → Nat := fun j => if j = 2 * co then v0 else v1
theorem se_lr0 {v0 v1 : Nat} : se_lr co v0 v1 (2 * co) = v0 := if_pos rfl
theorem se_lr1 {v0 v1 j : Nat} (h : 2 * co < j) : se_lr co v0 v1 j = v1 := if_neg (by omega)
theorem se_VA {l0 l1 r0 r1 : Nat} (hco : co < 2) (hR : se_R k c d a2 a3 a4 a5) (h : se_two co i1 A x y k c d) (h1 : 2 * co < i1) (hV : se_V co i1 l0 l1 r0 r1 b8 b9) (hl0 : l0 ≤ 60) (hl1 : l1 ≤ 60) (hr0 : r0 ≤ 60) (hr1 : r1 ≤ 60) : se_A (se_lr co l0 l1) (se_lr co r0 r1) k d co a2 a5 b8 b9 := by
  intro j hj hk
  obtain ⟨-, h5, h2, -, hd⟩ := (hR j hj).2 (by omega)
  obtain ⟨k0, c0, d0, k1, c1, d1, hn⟩ := h
  obtain ⟨v8, v9, w8, w9⟩ := hV
  by_cases e : j = 2 * co
  · subst e
    rw [se_lr0, se_lr0]
    exact ⟨v8, v9, h5, h2, hl0, hr0, hd⟩
  · have e1 : j = i1 := Decidable.byContradiction (fun g => hn j e g hk)
    subst e1
    rw [se_lr1 h1, se_lr1 h1]
    exact ⟨w8, w9, h5, h2, hl1, hr1, hd⟩
theorem se_scg_t {now i b e : Nat} (h : 0 < l i ∧ r i ≤ now ∧ (b = 0 ∨ r i + d i < r (b - 1) + d (b - 1))) : se_scg l r d now i (b, e) = (i + 1, min e (r i + 10)) := by
  unfold se_scg
  dsimp only
  rw [if_pos h, if_neg (show ¬ (0 < l i ∧ now < r i) by omega)]
theorem se_scg_f {now i b e v : Nat} (h : ¬ r i ≤ now) (hv : min e (if 0 < l i ∧ now < r i then r i else r i + 10) = v) : se_scg l r d now i (b, e) = (b, v) := by
  unfold se_scg
  dsimp only
  rw [if_neg (show ¬ (0 < l i ∧ r i ≤ now ∧ (b = 0 ∨ r i + d i < r (b - 1) + d (b - 1))) from fun z => h z.2.1), hv]
theorem se_sc2 {now : Nat} (h : se_two co i1 A x y k c d) (h1 : 2 * co < i1) (hi : i1 < 26) : se_fo (se_on k co (se_scg l r d now)) (0, 60) 26 = se_scg l r d now i1 (se_scg l r d now (2 * co) (0, 60)) := by
  obtain ⟨k0, c0, d0, k1, c1, d1, hn⟩ := h
  exact se_fo2 (2 * co) i1 k0 k1 hn h1 hi
theorem se_F0 {P : Nat} (h : se_two co i1 A x y k c d) (h1 : 2 * co < i1) (hi : i1 < 26) (hP : P ≤ 50) (hA : 0 < A) (hx : 0 < x) (hy : y < 10) : se_fo (se_on k co (se_scg (se_lr co A x) (se_lr co P P) d P)) (0, 60) 26 = (i1 + 1, P + 10) := by
  rw [se_sc2 h h1 hi]
  obtain ⟨k0, c0, d0, k1, c1, d1, hn⟩ := h
  rw [se_scg_t (i := 2 * co) ⟨by rw [se_lr0]; exact hA, by rw [se_lr0]; omega, Or.inl rfl⟩, se_lr0, show min 60 (P + 10) = P + 10 by omega,
    se_scg_t (i := i1) ⟨by rw [se_lr1 h1]; exact hx, by rw [se_lr1 h1]; omega, Or.inr (by rw [Nat.add_sub_cancel, se_lr0, se_lr1 h1, d0, d1]; omega)⟩, se_lr1 h1, Nat.min_self]
theorem se_F1 {P l1 : Nat} (h : se_two co i1 A x y k c d) (h1 : 2 * co < i1) (hi : i1 < 26) (hP : P ≤ 50) (hA : 0 < A) (hx : x < 10) : se_fo (se_on k co (se_scg (se_lr co A l1) (se_lr co P (P + 10)) d (P + x))) (0, 60) 26 = (2 * co + 1, P + 10) := by
  rw [se_sc2 h h1 hi, se_scg_t (i := 2 * co) ⟨by rw [se_lr0]; exact hA, by rw [se_lr0]; omega, Or.inl rfl⟩, se_lr0, show min 60 (P + 10) = P + 10 by omega]
  refine se_scg_f ?_ ?_
  · rw [se_lr1 h1]
    omega
  · rw [se_lr1 h1, se_lr1 h1]
    split <;> omega
theorem se_F2 {P l0 l1 : Nat} (h : se_two co i1 A x y k c d) (h1 : 2 * co < i1) (hi : i1 < 26) (hP : P ≤ 50) (hA : 0 < A) (hl : l0 = if 60 ≤ P + 10 then 0 else A) (hx : x + A < 10) : se_fo (se_on k co (se_scg (se_lr co l0 l1) (se_lr co (P + 10) (P + 10)) d (P + x + A))) (0, 60) 26 = (0, P + 10) := by
  rw [se_sc2 h h1 hi, se_scg_f (i := 2 * co) (b := 0) (e := 60) (v := P + 10) (by rw [se_lr0]; omega) (by
    rw [se_lr0, se_lr0, hl]
    by_cases g : 60 ≤ P + 10
    · rw [if_pos g, if_neg (by omega)]
      omega
    · rw [if_neg g, if_pos (by omega)]
      omega)]
  refine se_scg_f ?_ ?_
  · rw [se_lr1 h1]
    omega
  · rw [se_lr1 h1, se_lr1 h1]
    split <;> omega
/-- the plan's loop: period p, phase ph of it -/
def se_I (co i1 A x n now : Nat) (a6 a7 a8 a9 a10 : Nat → Int32) : Prop := ∃ p ph : Nat, (x + A < 10 → n = 3 * p + ph) ∧ (x + A = 10 → n = 2 * p + ph) ∧ n ≤ now ∧ se_G co i1 A x n a6 a7 a10 ∧
  ((ph = 0 ∧ now = 10 * p ∧ (p = 6 ∨ p < 6 ∧ se_V co i1 A x (10 * p) (10 * p) a8 a9)) ∨ (ph = 1 ∧ p < 6 ∧ now = 10 * p + x ∧ se_V co i1 A (if 60 ≤ 10 * p + 10 then 0 else x) (10 * p) (10 * p + 10) a8 a9) ∨ (ph = 2 ∧ p < 6 ∧ now = 10 * p + x + A ∧ x + A < 10 ∧ se_V co i1 (if 60 ≤ 10 * p + 10 then 0 else A) (if 60 ≤ 10 * p + 10 then 0 else x) (10 * p + 10) (10 * p + 10) a8 a9))
theorem se_VN {p : Nat} {v8 v9 : Nat → Int32} (hp : p < 6) (hV : se_V co i1 (if 60 ≤ 10 * p + 10 then 0 else A) (if 60 ≤ 10 * p + 10 then 0 else x) (10 * p + 10) (10 * p + 10) v8 v9) : p + 1 = 6 ∨ p + 1 < 6 ∧ se_V co i1 A x (10 * (p + 1)) (10 * (p + 1)) v8 v9 := by
  by_cases g : p + 1 = 6
  · exact Or.inl g
  · rw [if_neg (by omega), if_neg (by omega)] at hV
    rw [show 10 * (p + 1) = 10 * p + 10 by omega]
    exact Or.inr ⟨by omega, hV⟩
end
section
variable {f0 f1 f2 f3 : Int32} {a1 a2 a3 a4 a5 a6 a7 a8 a9 a10 : Nat → Int32}
variable {k c d : Nat → Nat} {co i1 A x y : Nat}
theorem se_p77 {post : St2 → Prop} (hco : co < 2) (hR : se_R k c d a2 a3 a4 a5) (h : se_two co i1 A x y k c d) (hi : i1 = 4 ∨ i1 = 5) (h6 : 6 ≤ A) (hx : 1 ≤ x) (hxA : A + x ≤ 10) (hy : y < 10)
    (hp : ∀ n a6 a7 a8 a9 a10, 3 ≤ n → n ≤ 60 → se_G co i1 A x n a6 a7 a10 → post (f0, f1, f2, nI n, a1, a2, a3, a4, a5, a6, a7, a8, a9, a10)) :
    ∀ fu n now a6 a7 a8 a9 a10, 60 - now < fu → now ≤ 60 → se_I co i1 A x n now a6 a7 a8 a9 a10 → wX_plan_77 post (nI co) fu (nI now) (nI n) f0 f1 f2 (nI n) a1 a2 a3 a4 a5 a6 a7 a8 a9 a10 := by
  intro fu
  induction fu with
  | zero => exact fun n now a6 a7 a8 a9 a10 hf => absurd hf (by omega)
  | succ fu ih =>
    intro n now a6 a7 a8 a9 a10 hf hn hI
    have h1 : 2 * co < i1 := by omega
    obtain ⟨k0, c0, d0, k1, c1, d1, hno⟩ := id h
    obtain ⟨p, ph, n3, n2, nn, hG, hph⟩ := hI
    rcases hph with ⟨rfl, rfl, hp6 | ⟨hp6, hV⟩⟩ | ⟨rfl, hp6, rfl, hV⟩ | ⟨rfl, hp6, rfl, hs, hV⟩
    · subst hp6
      have H := hp n a6 a7 a8 a9 a10 (by omega) (by omega) hG
      exact pk_le 60 n (fun _ => H) (fun _ => pk_le 60 (10 * 6) (fun _ => H) (fun z => absurd z (by omega)))
    · refine pk_le 60 n (fun z => absurd z (by omega)) (fun _ => pk_le 60 (10 * p) (fun z => absurd z (by omega)) (fun _ => ?_))
      have hA := se_VA hco hR h h1 hV (by omega) (by omega) (by omega) (by omega)
      have hs : ∃ s, a10 i1 = nI s ∧ s ≤ 60 ∧ (if x ≤ s then s else x) = x := by
        by_cases g : n = 0
        · exact ⟨0, hG.1 g, by omega, if_neg (by omega)⟩
        · exact ⟨x, (hG.2.2.1 (by omega)).2.2, by omega, if_pos (Nat.le_refl x)⟩
      obtain ⟨s, hs, hs6, hsx⟩ := hs
      refine se_stR (i := i1) (lv := x) (rv := 10 * p) hco hR hA (by omega) (by omega) (se_F0 h h1 (by omega) (by omega) (by omega) hx hy) (by omega) k1 (se_lr1 h1) (se_lr1 h1) hs hs6 (by omega) (by omega) (by omega) (fun c8 c9 c10 e8 e9 e10 ej => nm_r (nI_1 n) (ih (n + 1) (10 * p + x) _ _ c8 c9 c10 (by omega) (by omega) ?_))
      rw [show 10 * p + x - 10 * p = x by omega, hsx] at e10
      rw [c1] at e8
      have ej0 := ej (2 * co) (by omega)
      refine ⟨p, 1, by omega, by omega, by omega, se_G0 (by omega) hG e10 ej0.2.2 (by omega), Or.inr (Or.inl ⟨rfl, hp6, rfl, ?_⟩)⟩
      exact ⟨ej0.1.trans hV.1, ej0.2.1.trans hV.2.1, e8, e9⟩
    · refine pk_le 60 n (fun z => absurd z (by omega)) (fun _ => pk_le 60 (10 * p + x) (fun z => absurd z (by omega)) (fun _ => ?_))
      have hb : (if 60 ≤ 10 * p + 10 then 0 else x) ≤ 60 := by split <;> omega
      have hA := se_VA hco hR h h1 hV (by omega) hb (by omega) (by omega)
      have hs : ∃ s, a10 (2 * co) = nI s ∧ s ≤ 60 ∧ (if x + A ≤ s then s else x + A) = x + A := by
        by_cases g : n < 2
        · exact ⟨0, hG.2.1 g, by omega, if_neg (by omega)⟩
        · exact ⟨x + A, (hG.2.2.2.1 (by omega)).2.2, by omega, if_pos (Nat.le_refl _)⟩
      obtain ⟨s, hs, hs6, hsx⟩ := hs
      refine se_stR (i := 2 * co) (lv := A) (rv := 10 * p) hco hR hA (by omega) (by omega) (se_F1 h h1 (by omega) (by omega) (by omega) (by omega)) (by omega) k0 se_lr0 se_lr0 hs hs6 (by omega) (by omega) (by omega) (fun c8 c9 c10 e8 e9 e10 ej => nm_r (nI_1 n) (ih (n + 1) (10 * p + x + A) _ _ c8 c9 c10 (by omega) (by omega) ?_))
      rw [show 10 * p + x + A - 10 * p = x + A by omega, hsx] at e10
      rw [c0] at e8
      have ej1 := ej i1 (by omega)
      have hV' : se_V co i1 (if 60 ≤ 10 * p + 10 then 0 else A) (if 60 ≤ 10 * p + 10 then 0 else x) (10 * p + 10) (10 * p + 10) c8 c9 := ⟨e8, e9, ej1.1.trans hV.2.2.1, ej1.2.1.trans hV.2.2.2⟩
      have hG' := se_G1 (p := p) (by omega) hG e10 ej1.2.2
      by_cases g : x + A < 10
      · exact ⟨p, 2, by omega, by omega, by omega, hG', Or.inr (Or.inr ⟨rfl, hp6, rfl, g, hV'⟩)⟩
      · exact ⟨p + 1, 0, by omega, by omega, by omega, hG', Or.inl ⟨rfl, by omega, se_VN hp6 hV'⟩⟩
    · refine pk_le 60 n (fun z => absurd z (by omega)) (fun _ => pk_le 60 (10 * p + x + A) (fun z => absurd z (by omega)) (fun _ => ?_))
      have hb0 : (if 60 ≤ 10 * p + 10 then 0 else A) ≤ 60 := by split <;> omega
      have hb1 : (if 60 ≤ 10 * p + 10 then 0 else x) ≤ 60 := by split <;> omega
      have hA := se_VA hco hR h h1 hV hb0 hb1 (by omega) (by omega)
      refine se_stN (e := 10 * p + 10) hco hR hA (by omega) (by omega) (se_F2 h h1 (by omega) (by omega) (by omega) rfl hs) (nm_r (nI_1 n) (ih (n + 1) (10 * p + 10) _ _ a8 a9 a10 (by omega) (by omega) ?_))
      exact ⟨p + 1, 0, by omega, by omega, by omega, se_G2 (by omega) hG, Or.inl ⟨rfl, by omega, se_VN hp6 hV⟩⟩
/-- the plan is core co's -/
def se_OK (co i1 A x : Nat) (f3 : Int32) (a6 a7 a10 : Nat → Int32) : Prop := ∃ n, f3 = nI n ∧ 3 ≤ n ∧ n ≤ 60 ∧ se_G co i1 A x n a6 a7 a10
theorem se_p21 {post : St2 → Prop} (hco : co < 2) (hR : se_R k c d a2 a3 a4 a5) (h : se_two co i1 A x y k c d) (hi : i1 = 4 ∨ i1 = 5) (h6 : 6 ≤ A) (hx : 1 ≤ x) (hxA : A + x ≤ 10) (hy : y < 10)
    (hp : ∀ f3 a6 a7 a8 a9 a10, se_OK co i1 A x f3 a6 a7 a10 → post (f0, f1, f2, f3, a1, a2, a3, a4, a5, a6, a7, a8, a9, a10)) : ∃ n, wX_plan_21 post (nI co) f0 f1 f2 0 n 0 a1 a2 a3 a4 a5 a6 a7 a8 a9 a10 := by
  refine pk_loop (σ := (Nat → Int32) × (Nat → Int32) × (Nat → Int32)) (fun n i s => wX_plan_21 post (nI co) f0 f1 f2 0 n (nI i) a1 a2 a3 a4 a5 a6 a7 s.1 s.2.1 s.2.2) (fun i s => ∀ j, j < i → (k j = co → s.1 j = nI (c j)) ∧ s.2.1 j = nI 0 ∧ s.2.2 j = nI 0) 26 0 (a8, a9, a10) (by omega) (fun j hj => absurd hj (by omega)) (fun n s hs => ?_) (fun n i s hi' hs hw => ?_)
  · obtain ⟨s8, s9, s10⟩ := s
    dsimp only at hs ⊢
    refine pk_le 26 26 (fun _ => ⟨61, ?_⟩) (fun z => absurd z (by omega))
    obtain ⟨k0, c0, d0, k1, c1, d1, hno⟩ := id h
    have q0 := hs (2 * co) (by omega)
    have q1 := hs i1 (by omega)
    refine se_p77 hco hR h hi h6 hx hxA hy (fun n a6 a7 a8 a9 a10 h3 h60 hG => hp _ _ _ _ _ _ ⟨n, rfl, h3, h60, hG⟩) 61 0 0 a6 a7 s8 s9 s10 (by omega) (by omega) ?_
    refine ⟨0, 0, by omega, by omega, by omega, ⟨fun _ => q1.2.2, fun _ => q0.2.2, fun z => absurd z (by omega), fun z => absurd z (by omega), fun z => absurd z (by omega)⟩, Or.inl ⟨rfl, rfl, Or.inr ⟨by omega, ?_⟩⟩⟩
    exact ⟨(q0.1 k0).trans (by rw [c0]), q0.2.1, (q1.1 k1).trans (by rw [c1]), q1.2.1⟩
  · obtain ⟨s8, s9, s10⟩ := s
    dsimp only at hs ⊢
    have hw' : ∀ t8 t9 t10 : Nat → Int32, (∀ j, j < i + 1 → (k j = co → t8 j = nI (c j)) ∧ t9 j = nI 0 ∧ t10 j = nI 0) → wX_plan_21 post (nI co) f0 f1 f2 0 n (nI (i + 1)) a1 a2 a3 a4 a5 a6 a7 t8 t9 t10 := fun t8 t9 t10 ht => hw (t8, t9, t10) ht
    have n' : vp_in (nI i) 26 := pk_in i 26 hi'
    have l' : i < 2 ^ 31 := by omega
    obtain ⟨h3, h4⟩ := hR i hi'
    have K : ∀ v : Int32, (k i = co → v = nI (c i)) → wX_plan_52 post (wX_plan_21 post (nI co) f0 f1 f2 0 n) (nI co) (nI i) v (nI i) f0 f1 f2 0 a1 a2 a3 a4 a5 a6 a7 s8 s9 s10 := by
      intro v hv
      refine ⟨n', se_up l' ⟨n', se_up l' ⟨n', se_up l' (nm_r (nI_1 i) (hw' _ _ _ ?_))⟩⟩⟩
      intro j hj
      by_cases e : j = i
      · subst e
        rw [pk_us, pk_us, pk_us]
        exact ⟨hv, rfl, rfl⟩
      · rw [pk_un e, pk_un e, pk_un e]
        exact hs j (by omega)
    refine pk_le 26 i (fun z => absurd z (by omega)) (fun _ => ⟨n', ?_⟩)
    rw [nI_clamp l', h3]
    refine ek_if (se_Kc hco) (fun hk => ⟨n', K _ (fun _ => (h4 (by omega)).1)⟩) (fun hk => K _ (fun z => absurd z hk))
theorem se_plan {post : St2 → Prop} (hco : co < 2) (hR : se_R k c d a2 a3 a4 a5) (h : se_two co i1 A x y k c d) (hi : i1 = 4 ∨ i1 = 5) (h6 : 6 ≤ A) (hx : 1 ≤ x) (hxA : A + x ≤ 10) (hy : y < 10) (hpl : f2 = nI co → se_OK co i1 A x f3 a6 a7 a10)
    (hp : ∀ f3 a6 a7 a8 a9 a10, se_OK co i1 A x f3 a6 a7 a10 → post (f0, f1, nI co, f3, a1, a2, a3, a4, a5, a6, a7, a8, a9, a10)) : wpX_plan post (f0, f1, f2, f3, a1, a2, a3, a4, a5, a6, a7, a8, a9, a10) (nI co) := by
  refine br_c (fun e => ?_) (fun _ => se_p21 hco hR h hi h6 hx hxA hy hp)
  have H := hp f3 a6 a7 a8 a9 a10 (hpl e)
  rw [← e] at H
  exact H
end
end
section
section
variable {f0 f1 f2 f3 : Int32} {a1 a2 a3 a4 a5 a6 a7 a8 a9 a10 : Nat → Int32}
variable {k c d : Nat → Nat} {co i1 A x y : Nat}
theorem se_nt0 {post : Int32 → Prop} {U id : Nat} (hUs : se_Us U a1) (hid : id < U) (hU : U ≤ 11) (hp : post 0) : wpX_noTask post (f0, f1, f2, f3, a1, a2, a3, a4, a5, a6, a7, a8, a9, a10) (nI id) := by
  refine br_f (nI_pos (by omega)) (pk_le 12 id (fun z => absurd z (by omega)) (fun _ => ⟨pk_in id 13 (by omega), br_f ?_ hp⟩))
  rw [nI_clamp (by omega), hUs id (by omega), if_pos hid]
  decide
theorem se_nt1 {post : Int32 → Prop} {U id : Nat} (hUs : se_Us U a1) (hid : U ≤ id) (hi : id ≤ 11) (hp : post 1) : wpX_noTask post (f0, f1, f2, f3, a1, a2, a3, a4, a5, a6, a7, a8, a9, a10) (nI id) := by
  refine br_f (nI_pos (by omega)) (pk_le 12 id (fun z => absurd z (by omega)) (fun _ => ⟨pk_in id 13 (by omega), br_t ?_ hp⟩))
  rw [nI_clamp (by omega), hUs id (by omega), if_neg (by omega)]
theorem se_co {post : Int32 → Prop} {U id : Nat} {v : Int32} (hUs : se_Us U a1) (hid : id < U) (hU : U ≤ 11) (hv : a3 (2 * id) = v) (hp : post v) : wpX_core post (f0, f1, f2, f3, a1, a2, a3, a4, a5, a6, a7, a8, a9, a10) (nI id) := by
  have e : (2 : Int32) * nI id = nI (2 * id) := pk_mul 2 id
  unfold wpX_core
  refine se_nt0 hUs hid hU (br_t rfl ?_)
  rw [e, nI_clamp (show 2 * id < 2 ^ 31 by omega), hv]
  exact ⟨pk_in (2 * id) 26 (by omega), hp⟩
theorem se_coN {post : Int32 → Prop} {U id : Nat} (hUs : se_Us U a1) (hid : U ≤ id) (hi : id ≤ 11) (hp : post (-5)) : wpX_core post (f0, f1, f2, f3, a1, a2, a3, a4, a5, a6, a7, a8, a9, a10) (nI id) := by
  unfold wpX_core
  exact se_nt1 hUs hid hi (br_f (by decide) hp)
theorem se_fc {post : Int32 → Prop} {U id : Nat} {v : Int32} (hUs : se_Us U a1) (hid : id < U) (hU : U ≤ 11) (hv : a4 (2 * id) = v) (hp : post v) : wpX_firstCost post (f0, f1, f2, f3, a1, a2, a3, a4, a5, a6, a7, a8, a9, a10) (nI id) := by
  have e : (2 : Int32) * nI id = nI (2 * id) := pk_mul 2 id
  unfold wpX_firstCost
  refine se_nt0 hUs hid hU (br_t rfl ?_)
  rw [e, nI_clamp (show 2 * id < 2 ^ 31 by omega), hv]
  exact ⟨pk_in (2 * id) 26 (by omega), hp⟩
theorem se_sc0 {post : Int32 → Prop} {U id : Nat} (hUs : se_Us U a1) (hid : id < U) (hU : U ≤ 11) (hv : a3 (2 * id + 1) = -1) (hp : post (-4)) : wpX_secondCore post (f0, f1, f2, f3, a1, a2, a3, a4, a5, a6, a7, a8, a9, a10) (nI id) := by
  have e : (2 : Int32) * nI id = nI (2 * id) := pk_mul 2 id
  unfold wpX_secondCore
  refine se_nt0 hUs hid hU (br_t rfl ?_)
  rw [e, nI_1, nI_clamp (show 2 * id + 1 < 2 ^ 31 by omega), hv]
  exact ⟨pk_in (2 * id + 1) 26 (by omega), br_f (by decide) hp⟩
theorem se_sc1 {post : Int32 → Prop} {U id q : Nat} (hUs : se_Us U a1) (hid : id < U) (hU : U ≤ 11) (hq : q < 2) (hv : a3 (2 * id + 1) = nI q) (hp : post (nI q)) : wpX_secondCore post (f0, f1, f2, f3, a1, a2, a3, a4, a5, a6, a7, a8, a9, a10) (nI id) := by
  have e : (2 : Int32) * nI id = nI (2 * id) := pk_mul 2 id
  unfold wpX_secondCore
  refine se_nt0 hUs hid hU (br_t rfl ?_)
  rw [e, nI_1, nI_clamp (show 2 * id + 1 < 2 ^ 31 by omega), hv]
  exact ⟨pk_in (2 * id + 1) 26 (by omega), br_t (nI_pos' (by omega)) ⟨pk_in (2 * id + 1) 26 (by omega), hp⟩⟩
theorem se_bc {post : Int32 → Prop} (hco : co < 2) (hp : post 0) : wpX_badCore post (2, f1, f2, f3, a1, a2, a3, a4, a5, a6, a7, a8, a9, a10) (nI co) :=
  br_f (nI_pos (by omega)) (pk_lt co 2 (fun _ => hp) (fun z => absurd z (by omega)))
theorem se_ldq {post : Int32 → Prop} {v : Nat} (hco : co < 2) (hR : se_R k c d a2 a3 a4 a5) (hv : se_ld k c co = v) (hp : post (nI v)) : wpX_load post (2, f1, f2, f3, a1, a2, a3, a4, a5, a6, a7, a8, a9, a10) (nI co) := by
  unfold wpX_load
  exact se_bc hco (br_t rfl (se_load hco hR (by rw [hv]; exact hp)))
/-- who runs in slot t -/
def se_rv (co A x t : Nat) : Int32 := if t < x then nI 2 else if t < x + A then nI co else -5
theorem se_rS {post : Int32 → St2 → Prop} {n t m e fu : Nat} (h : m + 1 < n) (hn : n ≤ 60) (ht : t < 8) (he : a6 m = nI e) (he6 : e < 2 ^ 31) (h1 : t < e → post (a7 m) (f0, f1, f2, nI n, a1, a2, a3, a4, a5, a6, a7, a8, a9, a10)) (h2 : e ≤ t → wX_running_31 post (nI t) f0 f1 f2 (nI n) a1 a2 a3 a4 a5 a6 a7 a8 a9 a10 fu (nI (m + 1))) : wX_running_31 post (nI t) f0 f1 f2 (nI n) a1 a2 a3 a4 a5 a6 a7 a8 a9 a10 (fu + 1) (nI m) := by
  have n' : vp_in (nI m) 64 := pk_in m 64 (by omega)
  have ec : (nI m).toNatClampNeg = m := nI_clamp (by omega)
  refine pk_le (n - 1) m (fun z => absurd z (by omega)) (fun _ => ⟨n', ?_⟩) (hx := pk_sub (a := n) (b := 1) (by omega))
  rw [ec, he]
  exact pk_lt t e (fun z => ⟨n', h1 z⟩) (fun z => nm_r (nI_1 m) (h2 z))
theorem se_run {post : Int32 → St2 → Prop} {t : Nat} (ht : t < 8) (hco : co < 2) (hR : se_R k c d a2 a3 a4 a5) (h : se_two co i1 A x y k c d) (hi : i1 = 4 ∨ i1 = 5) (h6 : 6 ≤ A) (hx : 1 ≤ x) (hxA : A + x ≤ 10) (hy : y < 10) (hpl : f2 = nI co → se_OK co i1 A x f3 a6 a7 a10)
    (hp : ∀ f3 a6 a7 a8 a9 a10, se_OK co i1 A x f3 a6 a7 a10 → post (se_rv co A x t) (2, f1, nI co, f3, a1, a2, a3, a4, a5, a6, a7, a8, a9, a10)) : wpX_running post (2, f1, f2, f3, a1, a2, a3, a4, a5, a6, a7, a8, a9, a10) (nI co) (nI t) := by
  unfold wpX_running
  refine se_bc hco (br_t rfl (br_f (nI_pos (by omega)) (pk_lt t 60 (fun _ => se_plan hco hR h hi h6 hx hxA hy hpl (fun f3 a6 a7 a8 a9 a10 hO => ?_)) (fun z => absurd z (by omega)))))
  have H := hp f3 a6 a7 a8 a9 a10 hO
  obtain ⟨n, rfl, h3, h60, g0, g1, g2, g3, g4⟩ := hO
  obtain ⟨p6, p7, p10⟩ := g2 (by omega)
  obtain ⟨q6, q7, q10⟩ := g3 (by omega)
  unfold se_rv at H
  have L : wX_running_31 post (nI t) 2 f1 (nI co) (nI n) a1 a2 a3 a4 a5 a6 a7 a8 a9 a10 (2 + 1) (nI 0) := by
    refine se_rS (by omega) h60 ht p6 (by omega) (fun z => ?_) (fun z => se_rS (fu := 1) (by omega) h60 ht q6 (by omega) (fun z2 => ?_) (fun z2 => ?_))
    · rw [if_pos z] at H
      rw [p7]
      exact H
    · rw [if_neg (by omega), if_pos z2] at H
      rw [q7]
      exact H
    · rw [if_neg (by omega), if_neg (by omega)] at H
      obtain ⟨r6, r7⟩ := g4 h3 (by omega)
      have n' : vp_in (nI (1 + 1)) 64 := pk_in 2 64 (by omega)
      have ec : (nI (1 + 1)).toNatClampNeg = 2 := nI_clamp (n := 2) (by omega)
      refine pk_le (n - 1) (1 + 1) (fun _ => ⟨n', ?_⟩) (fun _ => ⟨n', ?_⟩) (hx := pk_sub (a := n) (b := 1) (by omega))
      · rw [ec, r7]
        exact H
      · rw [ec, r6, r7]
        exact pk_lt t 10 (fun _ => ⟨n', H⟩) (fun z => absurd z (by omega))
  exact ⟨2 + 1, L⟩
theorem se_resp {post : Int32 → St2 → Prop} {U id i : Nat} (hUs : se_Us U a1) (hid : id < U) (hU : U ≤ 11) (hI : i = 2 * id ∧ k (2 * id) = co ∨ i = 2 * id + 1 ∧ ¬ k (2 * id) = co ∧ k (2 * id + 1) = co) (hco : co < 2) (hR : se_R k c d a2 a3 a4 a5) (h : se_two co i1 A x y k c d) (hi : i1 = 4 ∨ i1 = 5) (h6 : 6 ≤ A) (hx : 1 ≤ x) (hxA : A + x ≤ 10) (hy : y < 10) (hpl : f2 = nI co → se_OK co i1 A x f3 a6 a7 a10)
    (hp : ∀ f3 a6 a7 a8 a9 a10, se_OK co i1 A x f3 a6 a7 a10 → post (a10 i) (2, f1, nI co, f3, a1, a2, a3, a4, a5, a6, a7, a8, a9, a10)) : wpX_response post (2, f1, f2, f3, a1, a2, a3, a4, a5, a6, a7, a8, a9, a10) (nI co) (nI id) := by
  have e : (2 : Int32) * nI id = nI (2 * id) := pk_mul 2 id
  unfold wpX_response
  refine se_bc hco (br_t rfl (se_nt0 hUs hid hU (br_t rfl (se_plan hco hR h hi h6 hx hxA hy hpl (fun f3 a6 a7 a8 a9 a10 hO => ?_)))))
  have H := hp f3 a6 a7 a8 a9 a10 hO
  have n0 : vp_in (nI (2 * id)) 26 := pk_in (2 * id) 26 (by omega)
  have n1 : vp_in (nI (2 * id + 1)) 26 := pk_in (2 * id + 1) 26 (by omega)
  dsimp only
  rw [e, nI_1, nI_clamp (show 2 * id < 2 ^ 31 by omega), nI_clamp (show 2 * id + 1 < 2 ^ 31 by omega), (hR (2 * id) (by omega)).1, (hR (2 * id + 1) (by omega)).1]
  rcases hI with ⟨rfl, hk⟩ | ⟨rfl, hk, hk1⟩
  · exact ⟨n0, br_t ((se_Kc hco).mpr hk) ⟨n0, H⟩⟩
  · exact ⟨n0, br_f (fun z => hk ((se_Kc hco).mp z)) ⟨n1, br_t ((se_Kc hco).mpr hk1) ⟨n1, H⟩⟩⟩
theorem se_s40 {post : Int32 → St2 → Prop} {U v : Nat} (hco : co < 2) (hU : U ≤ 11) (hk : k (2 * U) = 2) (h2 : a2 U = nI 10) (hv : v ≤ 10) (hpass : ∀ m, 1 ≤ m → m ≤ 10 → se_pass (se_u k (2 * U) co) (se_u c (2 * U) m) (se_u d (2 * U) 10) co = decide (m ≤ v))
    (hp : ∀ a3 a4 a5, se_R k c d a2 a3 a4 a5 → post (nI v) (f0, f1, f2, f3, a1, a2, a3, a4, a5, a6, a7, a8, a9, a10)) : ∀ fu lo hi a3 a4 a5, se_R k c d a2 a3 a4 a5 → lo ≤ v → v < hi → hi ≤ 11 → hi - lo ≤ fu → wX_spare_40 post (nI co) 10 (nI U) fu (nI lo) (nI hi) f0 f1 f2 f3 a1 a2 a3 a4 a5 a6 a7 a8 a9 a10 := by
  have e : (2 : Int32) * nI U = nI (2 * U) := pk_mul 2 U
  have h2' : a2 (2 * U / 2) = nI 10 := by
    rw [show 2 * U / 2 = U by omega]
    exact h2
  intro fu
  induction fu with
  | zero => exact fun lo hi a3 a4 a5 _ g1 g2 g3 g4 => absurd g4 (by omega)
  | succ fu ih =>
    intro lo hi a3 a4 a5 hR g1 g2 g3 g4
    refine pk_le (hi - lo) 1 (fun z => ?_) (fun z => ⟨by decide, nm_r (e' := nI ((lo + hi) / 2)) ?_ ?_⟩) (hx := pk_sub (by omega))
    · rw [show lo = v by omega]
      exact hp a3 a4 a5 hR
    · rw [nI_add]
      exact pk_div (a := lo + hi) (d := 2) (by omega) (by decide) (by decide)
    · rw [e]
      by_cases g : (lo + hi) / 2 ≤ v
      · exact se_pw1 (y := 10) hco hR (by omega) hk h2' (by omega) (by omega) ((hpass _ (by omega) (by omega)).trans (decide_eq_true g)) (fun b3 b4 b5 hR' => br_f (by decide) (ih _ _ b3 b4 b5 hR' g g2 g3 (by omega)))
      · exact se_pw0 (y := 10) hco hR (by omega) hk h2' (by omega) (by omega) ((hpass _ (by omega) (by omega)).trans (decide_eq_false g)) (fun b3 b4 b5 hR' => br_t rfl (ih _ _ b3 b4 b5 hR' g1 (by omega) (by omega) (by omega)))
theorem se_spare {post : Int32 → St2 → Prop} {U v : Nat} (hUs : se_Us U a1) (hco : co < 2) (hR : se_R k c d a2 a3 a4 a5) (hU : U ≤ 11) (hk : k (2 * U) = 2) (hv : v ≤ 10) (hpass : ∀ m, 1 ≤ m → m ≤ 10 → se_pass (se_u k (2 * U) co) (se_u c (2 * U) m) (se_u d (2 * U) 10) co = decide (m ≤ v))
    (hp : ∀ a3 a4 a5, se_R k c d (upd a2 U (nI 10)) a3 a4 a5 → post (nI v) (2, f1, f2, f3, a1, upd a2 U (nI 10), a3, a4, a5, a6, a7, a8, a9, a10)) : wpX_spare post (2, f1, f2, f3, a1, a2, a3, a4, a5, a6, a7, a8, a9, a10) (nI co) 10 := by
  unfold wpX_spare
  refine se_bc hco (br_t rfl (se_bp (br_t rfl (se_free hUs hU ⟨pk_in U 13 (by omega), se_up (by omega) (nm_r (e' := nI 11) (by decide) ⟨12, ?_⟩)⟩))))
  exact se_s40 hco hU hk pk_us hv hpass hp 12 0 11 a3 a4 a5 (se_R_per hR) (by omega) (by omega) (by omega) (by omega)
theorem se_rem {post : Int32 → St2 → Prop} (hUs : se_Us 3 a1) (hp : post 2 (f0, 2, -1, f3, upd a1 2 0, a2, upd (upd a3 4 (-1)) 5 (-1), a4, a5, a6, a7, a8, a9, a10)) : wpX_remove post (f0, 3, f2, f3, a1, a2, a3, a4, a5, a6, a7, a8, a9, a10) 2 := by
  have e4 : (2 : Int32) * 2 = nI 4 := by decide
  have e5 : nI 4 + 1 = nI 5 := by decide
  have e2 : (2 : Int32).toNatClampNeg = 2 := by decide
  unfold wpX_remove
  refine se_nt0 (id := 2) hUs (by omega) (by omega) (br_t rfl ?_)
  rw [e4, e5, nI_clamp (show 4 < 2 ^ 31 by omega), nI_clamp (show 5 < 2 ^ 31 by omega), e2]
  exact ⟨pk_in 2 13 (by omega), nm_e ⟨pk_in 4 26 (by omega), nm_e ⟨pk_in 5 26 (by omega), nm_e (nm_r (by decide) hp)⟩⟩⟩
end
end
section
section
variable {k c d : Nat → Nat} {a b w X A B : Nat}
/-- two tasks, one on each core -/
def se_Q (a b : Nat) (k c d : Nat → Nat) : Prop := k 0 = 0 ∧ c 0 = a ∧ d 0 = 10 ∧ k 2 = 1 ∧ c 2 = b ∧ d 2 = 10 ∧ ∀ i, i ≠ 0 → i ≠ 2 → k i = 2
/-- core X's own cost A, the other core's B -/
def se_X (a b X A B : Nat) : Prop := X = 0 ∧ A = a ∧ B = b ∨ X = 1 ∧ A = b ∧ B = a
theorem se_Qa (h : se_Q a b k c d) : se_one 0 a k c d := by
  obtain ⟨k0, c0, d0, k2, c2, d2, hn⟩ := h
  refine ⟨k0, c0, d0, fun i hi => ?_⟩
  by_cases e : i = 2
  · rw [e, k2]
    decide
  · rw [hn i hi e]
    decide
theorem se_Qb (h : se_Q a b k c d) : se_one 1 b k c d := by
  obtain ⟨k0, c0, d0, k2, c2, d2, hn⟩ := h
  refine ⟨k2, c2, d2, fun i hi => ?_⟩
  by_cases e : i = 0
  · rw [e, k0]
    decide
  · rw [hn i e hi]
    decide
theorem se_12 {i1 x y : Nat} (h : se_one X A k c d) (hX : X < 2) (hi : 4 ≤ i1) : se_two X i1 A x y (se_u k i1 X) (se_u c i1 x) (se_u d i1 y) := by
  obtain ⟨o1, o2, o3, o4⟩ := h
  refine ⟨(se_un (by omega)).trans o1, (se_un (by omega)).trans o2, (se_un (by omega)).trans o3, se_us, se_us, se_us, fun i g1 g2 => ?_⟩
  rw [se_un g2]
  exact o4 i g1
theorem se_11 {i v x y : Nat} (h : se_one X A k c d) (hX : X < 2) (hi : 4 ≤ i) (hv : v ≠ X) : se_one X A (se_u k i v) (se_u c i x) (se_u d i y) := by
  obtain ⟨o1, o2, o3, o4⟩ := h
  refine ⟨(se_un (by omega)).trans o1, (se_un (by omega)).trans o2, (se_un (by omega)).trans o3, fun j g => ?_⟩
  by_cases e : j = i
  · rw [e, se_us]
    exact hv
  · rw [se_un e]
    exact o4 j g
theorem se_22 {i1 i v x y p q : Nat} (h : se_two X i1 A x y k c d) (hX : X < 2) (hi : 4 ≤ i) (hi1 : i ≠ i1) (hv : v ≠ X) : se_two X i1 A x y (se_u k i v) (se_u c i p) (se_u d i q) := by
  obtain ⟨o1, o2, o3, o4, o5, o6, o7⟩ := h
  refine ⟨(se_un (by omega)).trans o1, (se_un (by omega)).trans o2, (se_un (by omega)).trans o3, (se_un (by omega)).trans o4, (se_un (by omega)).trans o5, (se_un (by omega)).trans o6, fun j g1 g2 => ?_⟩
  by_cases e : j = i
  · rw [e, se_us]
    exact hv
  · rw [se_un e]
    exact o7 j g1 g2
theorem se_pQ {i1 x y : Nat} (h : se_one X A k c d) (hX : X < 2) (hi : 4 ≤ i1) (hi2 : i1 < 26) (h6 : 6 ≤ A) (h9 : A ≤ 9) (hx : 1 ≤ x) (hxy : x ≤ y) (hy : y ≤ 10) : se_pass (se_u k i1 X) (se_u c i1 x) (se_u d i1 y) X = decide (A + x ≤ 10) :=
  se_pass2 (se_12 h hX hi) (by omega) hi2 h6 h9 hx hxy hy
end
section
variable {f0 f1 f2 f3 : Int32} {a1 a2 a3 a4 a5 a6 a7 a8 a9 a10 : Nat → Int32}
variable {k c d : Nat → Nat} {a b w : Nat}
theorem se_adm3 {post : Int32 → St2 → Prop} (hQ : se_Q a b k c d) (hR : se_R k c d a2 a3 a4 a5) (hUs : se_Us 2 a1) (ha : 6 ≤ a) (ha9 : a ≤ 9) (hb : 6 ≤ b) (hb9 : b ≤ 9) (hw1 : 1 ≤ w) (hw : w ≤ 10)
    (H0 : ∀ X A B, se_X a b X A B → A + w ≤ 10 → (X = 1 → 10 < a + w) → ∀ b3 b4 b5, se_R (se_u k 4 X) (se_u c 4 w) (se_u d 4 10) (upd a2 2 (nI 10)) b3 b4 b5 → post 2 (2, 3, -1, f3, upd a1 2 1, upd a2 2 (nI 10), b3, b4, b5, a6, a7, a8, a9, a10))
    (H2 : 20 < a + b + w → 10 < a + w → 10 < b + w → ∀ b3 b4 b5, se_R k c d (upd a2 2 (nI 10)) b3 b4 b5 → post (-4) (2, 2, f2, f3, a1, upd a2 2 (nI 10), b3, b4, b5, a6, a7, a8, a9, a10))
    (H3 : ∀ X A B, se_X a b X A B → A ≤ B → (X = 1 → A < B) → 10 < A + w → 10 < B + w → A + B + w ≤ 20 → ∀ b3 b4 b5, se_R (se_u (se_u k 4 X) 5 (1 - X)) (se_u (se_u c 4 (10 - A)) 5 (w - (10 - A))) (se_u (se_u d 4 (10 - A)) 5 (10 - (10 - A))) (upd a2 2 (nI 10)) b3 b4 b5 → post 2 (2, 3, -1, f3, upd a1 2 1, upd a2 2 (nI 10), b3, b4, b5, a6, a7, a8, a9, a10)) :
    wpX_admit post (2, 2, f2, f3, a1, a2, a3, a4, a5, a6, a7, a8, a9, a10) (nI w) 10 10 := by
  have oa := se_Qa hQ
  have ob := se_Qb hQ
  have hk : k (2 * 2) = 2 := hQ.2.2.2.2.2.2 4 (by omega) (by omega)
  have hk1 : k (2 * 2 + 1) = 2 := hQ.2.2.2.2.2.2 5 (by omega) (by omega)
  have W0 : se_pass (se_u k (2 * 2) 0) (se_u c (2 * 2) w) (se_u d (2 * 2) 10) 0 = decide (a + w ≤ 10) := se_pQ oa (by omega) (by omega) (by omega) ha ha9 hw1 hw (by omega)
  have W1 : se_pass (se_u k (2 * 2) 1) (se_u c (2 * 2) w) (se_u d (2 * 2) 10) 1 = decide (b + w ≤ 10) := se_pQ ob (by omega) (by omega) (by omega) hb hb9 hw1 hw (by omega)
  have P0 : ∀ x, 1 ≤ x → x < w → se_pass (se_u k (2 * 2) 0) (se_u c (2 * 2) x) (se_u d (2 * 2) x) 0 = decide (a + x ≤ 10) := fun x h1 h2 => se_pQ oa (by omega) (by omega) (by omega) ha ha9 h1 (Nat.le_refl x) (by omega)
  have P1 : ∀ x, 1 ≤ x → x < w → se_pass (se_u k (2 * 2) 1) (se_u c (2 * 2) x) (se_u d (2 * 2) x) 1 = decide (b + x ≤ 10) := fun x h1 h2 => se_pQ ob (by omega) (by omega) (by omega) hb hb9 h1 (Nat.le_refl x) (by omega)
  have Q0 : ∀ x, 1 ≤ x → x < w → se_pass (se_u k (2 * 2 + 1) 0) (se_u c (2 * 2 + 1) (w - x)) (se_u d (2 * 2 + 1) (10 - x)) 0 = decide (a + (w - x) ≤ 10) := fun x h1 h2 => se_pQ oa (by omega) (by omega) (by omega) ha ha9 (by omega) (by omega) (by omega)
  have Q1 : ∀ x, 1 ≤ x → x < w → se_pass (se_u k (2 * 2 + 1) 1) (se_u c (2 * 2 + 1) (w - x)) (se_u d (2 * 2 + 1) (10 - x)) 1 = decide (b + (w - x) ≤ 10) := fun x h1 h2 => se_pQ ob (by omega) (by omega) (by omega) hb hb9 (by omega) (by omega) (by omega)
  refine se_adm (U := 2) hR hUs (by omega) hk hw1 hw (fun p b3 b4 b5 hR' => ?_) (fun p q b3 b4 b5 hR' => ?_) (fun p q b3 b4 b5 hR' => ?_)
  · exact H0 0 a b (Or.inl ⟨rfl, rfl, rfl⟩) (of_decide_eq_true (W0.symm.trans p)) (fun z => absurd z (by omega)) b3 b4 b5 hR'
  · exact H0 1 b a (Or.inr ⟨rfl, rfl, rfl⟩) (of_decide_eq_true (W1.symm.trans q)) (fun _ => Nat.lt_of_not_le (of_decide_eq_false (W0.symm.trans p))) b3 b4 b5 hR'
  · have ga : ¬ a + w ≤ 10 := of_decide_eq_false (W0.symm.trans p)
    have gb : ¬ b + w ≤ 10 := of_decide_eq_false (W1.symm.trans q)
    by_cases g : a + b + w ≤ 20
    · by_cases gab : a ≤ b
      · have hS : ∀ b3 b4 b5, se_R k c d (upd a2 2 (nI 10)) b3 b4 b5 → wX_admit_78 post (nI w) 10 (nI 2) (1 + 1) 0 (nI (10 - a)) 2 (nI 2) f2 f3 a1 (upd a2 2 (nI 10)) b3 b4 b5 a6 a7 a8 a9 a10 := by
          intro b3 b4 b5 hR1
          have t0 := (P0 (10 - a) (by omega) (by omega)).trans (decide_eq_true (by omega))
          have t1 := (Q1 (10 - a) (by omega) (by omega)).trans (decide_eq_true (by omega))
          refine pk_lt (10 - a) 1 (fun z => absurd z (by omega)) (fun _ => br_t rfl ?_)
          refine se_split (U := 2) hR1 (by omega) hk hk1 pk_us hw (by omega) (fun _ _ b3 b4 b5 hR2 => ?_) (fun n => absurd ⟨t0, t1⟩ n) (fun n => absurd ⟨t0, t1⟩ n)
          exact nm_e (se_78d (by omega) (H3 0 a b (Or.inl ⟨rfl, rfl, rfl⟩) gab (fun z => absurd z (by omega)) (by omega) (by omega) g b3 b4 b5 hR2))
        have F := se_a78F (U := 2) (by omega) hk hk1 pk_us hw (10 - a) (1 + 1) hS (w - 1 - (10 - a)) (by omega) (fun x h1 h2 => ⟨fun z => absurd (of_decide_eq_true ((P0 x (by omega) (by omega)).symm.trans z.1)) (by omega), fun z => absurd (of_decide_eq_true ((P1 x (by omega) (by omega)).symm.trans z.1)) (by omega)⟩) b3 b4 b5 hR'
        rw [show 10 - a + (w - 1 - (10 - a)) = w - 1 by omega] at F
        exact ⟨_, F⟩
      · have hS : ∀ b3 b4 b5, se_R k c d (upd a2 2 (nI 10)) b3 b4 b5 → wX_admit_78 post (nI w) 10 (nI 2) (1 + 1) 0 (nI (10 - b)) 2 (nI 2) f2 f3 a1 (upd a2 2 (nI 10)) b3 b4 b5 a6 a7 a8 a9 a10 := by
          intro b3 b4 b5 hR1
          have t0 := (P0 (10 - b) (by omega) (by omega)).trans (decide_eq_false (by omega))
          have t1 := (P1 (10 - b) (by omega) (by omega)).trans (decide_eq_true (by omega))
          have t2 := (Q0 (10 - b) (by omega) (by omega)).trans (decide_eq_true (by omega))
          refine pk_lt (10 - b) 1 (fun z => absurd z (by omega)) (fun _ => br_t rfl ?_)
          refine se_split (U := 2) hR1 (by omega) hk hk1 pk_us hw (by omega) (fun z => absurd (t0.symm.trans z) (by decide)) (fun _ _ _ b3 b4 b5 hR2 => ?_) (fun _ n => absurd ⟨t1, t2⟩ n)
          exact nm_e (se_78d (by omega) (H3 1 b a (Or.inr ⟨rfl, rfl, rfl⟩) (by omega) (fun z => by omega) (by omega) (by omega) (by omega) b3 b4 b5 hR2))
        have F := se_a78F (U := 2) (by omega) hk hk1 pk_us hw (10 - b) (1 + 1) hS (w - 1 - (10 - b)) (by omega) (fun x h1 h2 => ⟨fun z => absurd (of_decide_eq_true ((P0 x (by omega) (by omega)).symm.trans z.1)) (by omega), fun z => absurd (of_decide_eq_true ((P1 x (by omega) (by omega)).symm.trans z.1)) (by omega)⟩) b3 b4 b5 hR'
        rw [show 10 - b + (w - 1 - (10 - b)) = w - 1 by omega] at F
        exact ⟨_, F⟩
    · have hS : ∀ b3 b4 b5, se_R k c d (upd a2 2 (nI 10)) b3 b4 b5 → wX_admit_78 post (nI w) 10 (nI 2) (0 + 1) 0 (nI 0) 2 (nI 2) f2 f3 a1 (upd a2 2 (nI 10)) b3 b4 b5 a6 a7 a8 a9 a10 := by
        intro b3 b4 b5 hR1
        exact pk_lt 0 1 (fun _ => br_t rfl (H2 (by omega) (by omega) (by omega) b3 b4 b5 hR1)) (fun z => absurd z (by omega))
      have F := se_a78F (U := 2) (by omega) hk hk1 pk_us hw 0 (0 + 1) hS (w - 1) (by omega) (fun x h1 h2 => ⟨fun z => absurd (And.intro (of_decide_eq_true ((P0 x (by omega) (by omega)).symm.trans z.1)) (of_decide_eq_true ((Q1 x (by omega) (by omega)).symm.trans z.2))) (by omega), fun z => absurd (And.intro (of_decide_eq_true ((P1 x (by omega) (by omega)).symm.trans z.1)) (of_decide_eq_true ((Q0 x (by omega) (by omega)).symm.trans z.2))) (by omega)⟩) b3 b4 b5 hR'
      rw [show 0 + (w - 1) = w - 1 by omega] at F
      exact ⟨_, F⟩
end
end
section
section
variable {f0 f1 f2 f3 : Int32} {a1 a2 a3 a4 a5 a6 a7 a8 a9 a10 : Nat → Int32}
variable {k c d : Nat → Nat} {a b w X A B m : Nat}
theorem se_init {post : St2 → Prop} {mc ms : Nat} (hmc : 10 ≤ mc) (hms : 310 ≤ ms)
    (hp : ∀ a3, (∀ j, j < 26 → a3 j = -1) → post (2, 0, -1, 0, fun _ => 0, fun _ => 0, a3, fun _ => 0, fun _ => 0, fun _ => 0, fun _ => 0, fun _ => 0, fun _ => 0, fun _ => 0)) : wpX_init post mc ms (0, 0, 0, 0) 2 := by
  refine ⟨by omega, by omega, by omega, by omega, by omega, by omega, by omega, by omega, by omega, by omega, by omega, by omega, by omega, by omega, by omega, by omega, by omega, by omega, by omega, by omega, br_t (by decide) (br_t (by decide) ?_)⟩
  refine pk_loop (fun n i s => wX_init_107 post mc ms 10 310 2 0 0 0 n (nI i) (fun _ => 0) (fun _ => 0) s (fun _ => 0) (fun _ => 0) (fun _ => 0) (fun _ => 0) (fun _ => 0) (fun _ => 0) (fun _ => 0)) (fun i s => ∀ j, j < i → s j = -1) 26 0 (fun _ => 0) (by omega) (fun j hj => absurd hj (by omega)) (fun n s hs => ?_) (fun n i s hi hs hw => ?_)
  · exact pk_le 26 26 (fun _ => hp s hs) (fun z => absurd z (by omega))
  · refine pk_le 26 i (fun z => absurd z (by omega)) (fun _ => ⟨pk_in i 26 hi, se_up (by omega) (nm_r (nI_1 i) (hw _ ?_))⟩)
    intro j hj
    by_cases e : j = i
    · rw [e, pk_us]
    · rw [pk_un e]
      exact hs j (by omega)
/-! the third task whole on core X -/
theorem se_mul6 (n : Nat) : nI (6 * n) = 6 * nI n := (pk_mul 6 n).symm
theorem se_L194 {post : Int32 → St0 → Prop} {mc ms kc ks : Nat} (hX : se_X a b X A B) (hR : se_R k c d a2 a3 a4 a5) (ho : se_one (1 - X) B k c d) (hp : post 1 ()) : wL_lawOf_194 post mc ms (nI a) (nI b) (nI X) (nI A) (nI w) 6 (nI (6 * (A + w))) kc ks 2 f1 f2 f3 a1 a2 a3 a4 a5 a6 a7 a8 a9 a10 := by
  have hX2 : X < 2 := by
    unfold se_X at hX
    omega
  have eX : (1 : Int32) - nI X = nI (1 - X) := pk_sub (a := 1) (by omega)
  unfold wL_lawOf_194
  rw [eX, nI_add, Nat.add_comm w A]
  refine br_t (se_mul6 (A + w)) (se_ldq (by omega) hR (se_ld1 ho (by omega)) (pk_eq X 0 (fun z => ?_) (fun z => ?_)))
  · have e : B = b := by
      unfold se_X at hX
      omega
    rw [e]
    exact br_t (se_mul6 b) hp
  · have e : B = a := by
      unfold se_X at hX
      omega
    rw [e]
    exact br_t (se_mul6 a) hp
theorem se_L134 {post : Int32 → St0 → Prop} {mc ms kc ks : Nat} (hX : se_X a b X A B) (hQ : se_Q a b k c d) (hR : se_R (se_u k 4 X) (se_u c 4 w) (se_u d 4 10) a2 a3 a4 a5) (hUs : se_Us 3 a1) (hp : post 1 ()) : wL_lawOf_134 post mc ms (nI a) (nI b) (nI w) 2 (nI X) kc ks 2 f1 f2 f3 a1 a2 a3 a4 a5 a6 a7 a8 a9 a10 := by
  have hX2 : X < 2 := by
    unfold se_X at hX
    omega
  have oX : se_one X A k c d := by
    rcases hX with ⟨rfl, rfl, rfl⟩ | ⟨rfl, rfl, rfl⟩
    · exact se_Qa hQ
    · exact se_Qb hQ
  have oY : se_one (1 - X) B k c d := by
    rcases hX with ⟨rfl, rfl, rfl⟩ | ⟨rfl, rfl, rfl⟩
    · exact se_Qb hQ
    · exact se_Qa hQ
  have oY' := se_11 (i := 4) (v := X) (x := w) (y := 10) oY (by omega) (by omega) (by omega)
  have tX := se_12 (i1 := 4) (x := w) (y := 10) oX hX2 (by omega)
  have v3 : a3 (2 * 2) = nI X := (hR 4 (by omega)).1.trans (by rw [se_us]; exact (se_Kc hX2).mpr rfl)
  have v4 : a4 (2 * 2) = nI w := ((hR 4 (by omega)).2 (by rw [se_us]; exact hX2)).1.trans (by rw [se_us])
  have v5 : a3 (2 * 2 + 1) = -1 := (hR 5 (by omega)).1.trans (by rw [se_un (by omega), hQ.2.2.2.2.2.2 5 (by omega) (by omega)]; rfl)
  refine br_t rfl (se_co (id := 2) hUs (by omega) (by omega) v3 (br_t rfl (se_sc0 (id := 2) hUs (by omega) (by omega) v5 (br_t rfl (se_fc (id := 2) hUs (by omega) (by omega) v4 (br_t rfl (se_ldq hX2 hR (se_ld2 tX (by omega) (by omega)) (pk_eq X 0 (fun z => ?_) (fun z => ?_)))))))))
  · have e : a = A := by
      unfold se_X at hX
      omega
    have H := se_L194 (post := post) (mc := mc) (ms := ms) (kc := kc) (ks := ks) (w := w) (f1 := f1) (f2 := f2) (f3 := f3) (a1 := a1) (a6 := a6) (a7 := a7) (a8 := a8) (a9 := a9) (a10 := a10) hX hR oY' hp
    rw [← e] at H ⊢
    exact H
  · have e : b = A := by
      unfold se_X at hX
      omega
    have H := se_L194 (post := post) (mc := mc) (ms := ms) (kc := kc) (ks := ks) (w := w) (f1 := f1) (f2 := f2) (f3 := f3) (a1 := a1) (a6 := a6) (a7 := a7) (a8 := a8) (a9 := a9) (a10 := a10) hX hR oY' hp
    rw [← e] at H ⊢
    exact H
end
end
section
section
variable {f0 f1 f2 f3 : Int32} {a1 a2 a3 a4 a5 a6 a7 a8 a9 a10 : Nat → Int32}
variable {k c d : Nat → Nat} {a b w X A B m : Nat}
/-- what the plan's fields hold between two questions -/
def se_J (X m w A B : Nat) (f2 f3 : Int32) (a6 a7 a10 : Nat → Int32) : Prop := (f2 = nI X → se_OK X 4 A m f3 a6 a7 a10) ∧ (f2 = nI (1 - X) → se_OK (1 - X) 5 B (w - m) f3 a6 a7 a10)
theorem se_ne {X : Nat} (h : X < 2) : ¬ nI X = nI (1 - X) := by
  rw [nI_eq (by omega) (by omega)]
  omega
theorem se_J1 (h : X < 2) (hO : se_OK X 4 A m f3 a6 a7 a10) : se_J X m w A B (nI X) f3 a6 a7 a10 := ⟨fun _ => hO, fun z => absurd z (se_ne h)⟩
theorem se_J2 (h : X < 2) (hO : se_OK (1 - X) 5 B (w - m) f3 a6 a7 a10) : se_J X m w A B (nI (1 - X)) f3 a6 a7 a10 := ⟨fun z => absurd z.symm (se_ne h), fun _ => hO⟩
theorem se_OK1 {co i1 x : Nat} (h : se_OK co i1 A x f3 a6 a7 a10) : a10 i1 = nI x := by
  obtain ⟨n, -, h3, -, g⟩ := h
  exact (g.2.2.1 (by omega)).2.2
theorem se_OK0 {co i1 x : Nat} (h : se_OK co i1 A x f3 a6 a7 a10) : a10 (2 * co) = nI (x + A) := by
  obtain ⟨n, -, h3, -, g⟩ := h
  exact (g.2.2.2.1 (by omega)).2.2
/-- the third task split: m on core X, the rest on the other -/
def se_Z (a b w X A B m : Nat) (k c d : Nat → Nat) : Prop := se_X a b X A B ∧ 6 ≤ A ∧ A ≤ 9 ∧ 6 ≤ B ∧ B ≤ 9 ∧ A + m = 10 ∧ m < w ∧ w ≤ 10 ∧ B + (w - m) ≤ 10 ∧ se_two X 4 A m m k c d ∧ se_two (1 - X) 5 B (w - m) (10 - m) k c d
theorem se_Zone (h : se_Z a b w X A B m k c d) : se_one X A (se_u (se_u k 4 2) 5 2) c d ∧ se_one (1 - X) B (se_u (se_u k 4 2) 5 2) c d := by
  obtain ⟨hX, -, -, -, -, -, -, -, -, t4, t5⟩ := h
  have hX2 : X < 2 := by
    unfold se_X at hX
    omega
  obtain ⟨o1, o2, o3, o4, o5, o6, o7⟩ := t4
  obtain ⟨p1, p2, p3, p4, p5, p6, p7⟩ := t5
  refine ⟨⟨?_, o2, o3, fun i g => ?_⟩, ⟨?_, p2, p3, fun i g => ?_⟩⟩
  · rw [se_un (by omega), se_un (by omega)]
    exact o1
  · by_cases e : i = 5
    · rw [e, se_us]
      omega
    · rw [se_un e]
      by_cases e4 : i = 4
      · rw [e4, se_us]
        omega
      · rw [se_un e4]
        exact o7 i g e4
  · rw [se_un (by omega), se_un (by omega)]
    exact p1
  · by_cases e : i = 5
    · rw [e, se_us]
      omega
    · rw [se_un e]
      by_cases e4 : i = 4
      · rw [e4, se_us]
        omega
      · rw [se_un e4]
        exact p7 i g e
theorem se_Lend {post : Int32 → St0 → Prop} {mc ms kc ks n : Nat} (hZ : se_Z a b w X A B m k c d) (hk6 : k 6 = 2) (hR : se_R k c d a2 a3 a4 a5) (hUs : se_Us 3 a1) (hJ : se_J X m w A B f2 f3 a6 a7 a10) (hp : post 1 ()) :
    wL_lawOf_408 post mc ms (nI a) (nI b) (nI w) (nI (10 - a)) (nI (10 - b)) (nI m) (nI X) kc ks (n + 1) (nI 8) 2 3 f2 f3 a1 a2 a3 a4 a5 a6 a7 a8 a9 a10 := by
  have hO := se_Zone hZ
  obtain ⟨hX, hA6, hA9, hB6, hB9, hAm, hmw, hw, hBw, t4, t5⟩ := hZ
  have hX2 : X < 2 := by
    unfold se_X at hX
    omega
  have eX : (1 : Int32) - nI X = nI (1 - X) := pk_sub (a := 1) (by omega)
  have k4 : k 4 = X := t4.2.2.2.1
  have k5 : k 5 = 1 - X := t5.2.2.2.1
  refine pk_le 8 8 (fun _ => ?_) (fun z => absurd z (by omega))
  refine se_resp (id := 2) (i := 4) hUs (by omega) (by omega) (Or.inl ⟨rfl, k4⟩) hX2 hR t4 (Or.inl rfl) hA6 (by omega) (by omega) (by omega) hJ.1 (fun f3 a6 a7 a8 a9 a10 hO1 => br_t (se_OK1 hO1) ?_)
  rw [eX, pk_sub (show m ≤ w by omega)]
  refine se_resp (id := 2) (i := 5) hUs (by omega) (by omega) (Or.inr ⟨rfl, by show ¬ k 4 = 1 - X; omega, k5⟩) (by omega) hR t5 (Or.inr rfl) hB6 (by omega) hBw (by omega) (fun z => absurd z (se_ne hX2)) (fun f3 a6 a7 a8 a9 a10 hO2 => br_t (se_OK1 hO2) ?_)
  refine se_resp (id := X) (i := 2 * X) hUs (by omega) (by omega) (Or.inl ⟨rfl, t4.1⟩) hX2 hR t4 (Or.inl rfl) hA6 (by omega) (by omega) (by omega) (fun z => absurd z.symm (se_ne hX2)) (fun f3 a6 a7 a8 a9 a10 hO3 => br_t ((se_OK0 hO3).trans (by rw [show m + A = 10 by omega]; rfl)) ?_)
  refine se_spare (U := 3) (v := 0) hUs hX2 hR (by omega) hk6 (by omega) (fun q q1 q2 => ?_) (fun a3 a4 a5 hR => br_t rfl ?_)
  · have hF := se_pass3 (co := X) (i1 := 4) (i2 := 6) (k := se_u k 6 X) (c := se_u c 6 q) (d := se_u d 6 10) ((se_un (by omega)).trans t4.1) ((se_un (by omega)).trans k4) se_us (fun i g1 g2 g3 => by rw [se_un g3]; exact t4.2.2.2.2.2.2 i g1 g2) (by omega) (by omega) (by omega) (by rw [se_un (by omega), se_un (by omega), se_us, t4.2.1, t4.2.2.2.2.1]; omega)
    exact hF.trans (decide_eq_false (by omega)).symm
  refine se_rem hUs (br_t rfl ?_)
  have hR' := se_R_drop (se_R_drop hR 4) 5
  have hUs' := se_Us_sub (U := 2) hUs
  have hab : se_one 0 a (se_u (se_u k 4 2) 5 2) c d ∧ se_one 1 b (se_u (se_u k 4 2) 5 2) c d ∧ 6 ≤ a ∧ a ≤ 9 ∧ 6 ≤ b ∧ b ≤ 9 := by
    rcases hX with ⟨rfl, rfl, rfl⟩ | ⟨rfl, rfl, rfl⟩
    · exact ⟨hO.1, hO.2, hA6, hA9, hB6, hB9⟩
    · exact ⟨hO.2, hO.1, hB6, hB9, hA6, hA9⟩
  obtain ⟨oa, ob, ha6, ha9, hb6, hb9⟩ := hab
  have k4' : se_u (se_u k 4 2) 5 2 (2 * 2) = 2 := (se_un (by omega)).trans se_us
  refine se_spare (co := 0) (U := 2) (v := 10 - a) hUs' (by omega) hR' (by omega) k4' (by omega) (fun q q1 q2 => (se_pQ (i1 := 4) oa (by omega) (by omega) (by omega) ha6 ha9 q1 q2 (by omega)).trans (decide_eq_decide.mpr (by omega))) (fun a3 a4 a5 hR2 => br_t rfl ?_)
  exact se_spare (co := 1) (U := 2) (v := 10 - b) hUs' (by omega) hR2 (by omega) k4' (by omega) (fun q q1 q2 => (se_pQ (i1 := 4) ob (by omega) (by omega) (by omega) hb6 hb9 q1 q2 (by omega)).trans (decide_eq_decide.mpr (by omega))) (fun a3 a4 a5 hR3 => br_t rfl hp)
theorem se_L408 {post : Int32 → St0 → Prop} {mc ms kc ks : Nat} (hZ : se_Z a b w X A B m k c d) (hk6 : k 6 = 2) (hR : se_R k c d a2 a3 a4 a5) (hUs : se_Us 3 a1) (hJ : se_J X m w A B f2 f3 a6 a7 a10) (hp : post 1 ()) :
    ∃ n, wL_lawOf_408 post mc ms (nI a) (nI b) (nI w) (nI (10 - a)) (nI (10 - b)) (nI m) (nI X) kc ks n 0 2 3 f2 f3 a1 a2 a3 a4 a5 a6 a7 a8 a9 a10 := by
  refine pk_loop (σ := Int32 × Int32 × (Nat → Int32) × (Nat → Int32) × (Nat → Int32) × (Nat → Int32) × (Nat → Int32)) (fun n i s => wL_lawOf_408 post mc ms (nI a) (nI b) (nI w) (nI (10 - a)) (nI (10 - b)) (nI m) (nI X) kc ks n (nI i) 2 3 s.1 s.2.1 a1 a2 a3 a4 a5 s.2.2.1 s.2.2.2.1 s.2.2.2.2.1 s.2.2.2.2.2.1 s.2.2.2.2.2.2) (fun _ s => se_J X m w A B s.1 s.2.1 s.2.2.1 s.2.2.2.1 s.2.2.2.2.2.2) 8 0 (f2, f3, a6, a7, a8, a9, a10) (by omega) hJ (fun n s hs => ?_) (fun n i s hi hs hw => ?_)
  · exact se_Lend hZ hk6 hR hUs hs hp
  · obtain ⟨f2, f3, a6, a7, a8, a9, a10⟩ := s
    have hw' : ∀ f2 f3 a6 a7 a8 a9 a10, se_J X m w A B f2 f3 a6 a7 a10 → wL_lawOf_408 post mc ms (nI a) (nI b) (nI w) (nI (10 - a)) (nI (10 - b)) (nI m) (nI X) kc ks n (nI (i + 1)) 2 3 f2 f3 a1 a2 a3 a4 a5 a6 a7 a8 a9 a10 := fun f2 f3 a6 a7 a8 a9 a10 h => hw (f2, f3, a6, a7, a8, a9, a10) h
    obtain ⟨hX, hA6, hA9, hB6, hB9, hAm, hmw, hww, hBw, t4, t5⟩ := hZ
    have hX2 : X < 2 := by
      unfold se_X at hX
      omega
    have eX : (1 : Int32) - nI X = nI (1 - X) := pk_sub (a := 1) (by omega)
    have eW : nI w - nI m = nI (w - m) := pk_sub (by omega)
    refine pk_le 8 i (fun z => absurd z (by omega)) (fun _ => ?_)
    refine se_run (t := i) hi hX2 hR t4 (Or.inl rfl) hA6 (by omega) (by omega) (by omega) hs.1 (fun f3 a6 a7 a8 a9 a10 hO => ?_)
    have K : ∀ v, se_rv X A m i = v → wL_lawOf_436 post mc ms (wL_lawOf_408 post mc ms (nI a) (nI b) (nI w) (nI (10 - a)) (nI (10 - b)) (nI m) (nI X) kc ks n) (nI a) (nI b) (nI w) (nI (10 - a)) (nI (10 - b)) (nI m) (nI X) (nI i) v (se_rv X A m i) kc ks 2 3 (nI X) f3 a1 a2 a3 a4 a5 a6 a7 a8 a9 a10 := by
      intro v hv
      unfold wL_lawOf_436
      rw [eX, eW]
      refine br_t hv (se_run (t := i) hi (by omega) hR t5 (Or.inr rfl) hB6 (by omega) hBw (by omega) (fun z => absurd z (se_ne hX2)) (fun f3 a6 a7 a8 a9 a10 hO2 => ?_))
      have N : ∀ v, se_rv (1 - X) B (w - m) i = v → wL_lawOf_495 post mc ms (wL_lawOf_408 post mc ms (nI a) (nI b) (nI w) (nI (10 - a)) (nI (10 - b)) (nI m) (nI X) kc ks n) (nI a) (nI b) (nI w) (nI (10 - a)) (nI (10 - b)) (nI m) (nI X) (nI i) v (se_rv (1 - X) B (w - m) i) kc ks 2 3 (nI (1 - X)) f3 a1 a2 a3 a4 a5 a6 a7 a8 a9 a10 := fun v hv => br_t hv (nm_r (nI_1 i) (hw' _ _ _ _ _ _ _ (se_J2 hX2 hO2)))
      have M : w - m ≤ i → ∀ b', b' = B → wL_lawOf_482 post mc ms (wL_lawOf_408 post mc ms (nI a) (nI b) (nI w) (nI (10 - a)) (nI (10 - b)) (nI m) (nI X) kc ks n) (nI a) (nI b) (nI w) (nI (10 - a)) (nI (10 - b)) (nI m) (nI X) (nI i) (nI b') (nI (w - m)) (nI i) (se_rv (1 - X) B (w - m) i) kc ks 2 3 (nI (1 - X)) f3 a1 a2 a3 a4 a5 a6 a7 a8 a9 a10 := by
        intro hi' b' hb'
        subst hb'
        unfold wL_lawOf_482
        rw [eX, nI_add]
        refine pk_le (w - m + b') i (fun z => N _ ?_) (fun z => N _ ?_)
        · unfold se_rv
          rw [if_neg (by omega), if_neg (by omega)]
        · unfold se_rv
          rw [if_neg (by omega), if_pos z]
      refine pk_le (w - m) i (fun z => pk_eq X 0 (fun z0 => M z b ?_) (fun z0 => M z a ?_)) (fun z => N _ ?_)
      · unfold se_X at hX
        omega
      · unfold se_X at hX
        omega
      · unfold se_rv
        rw [if_pos z]
        rfl
    refine pk_le m i (fun z => K _ ?_) (fun z => K _ ?_)
    · unfold se_rv
      rw [if_neg (by omega), if_pos (by omega)]
    · unfold se_rv
      rw [if_pos z]
      rfl
theorem se_L318 {post : Int32 → St0 → Prop} {mc ms kc ks : Nat} (hZ : se_Z a b w X A B m k c d) (hk6 : k 6 = 2) (hR : se_R k c d a2 a3 a4 a5) (hUs : se_Us 3 a1) (hp : post 1 ()) :
    wL_lawOf_318 post mc ms (nI a) (nI b) (nI w) (nI (10 - a)) (nI (10 - b)) 2 (nI m) (nI X) kc ks 2 3 (-1) f3 a1 a2 a3 a4 a5 a6 a7 a8 a9 a10 := by
  obtain ⟨hX, hA6, hA9, hB6, hB9, hAm, hmw, hw, hBw, t4, t5⟩ := id hZ
  have hX2 : X < 2 := by
    unfold se_X at hX
    omega
  have eX : (1 : Int32) - nI X = nI (1 - X) := pk_sub (a := 1) (by omega)
  have k4 : k 4 = X := t4.2.2.2.1
  have k5 : k 5 = 1 - X := t5.2.2.2.1
  have v3 : a3 (2 * 2) = nI X := (hR 4 (by omega)).1.trans ((se_Kc hX2).mpr k4)
  have v4 : a4 (2 * 2) = nI m := ((hR 4 (by omega)).2 (by omega)).1.trans (by rw [t4.2.2.2.2.1])
  have v5 : a3 (2 * 2 + 1) = nI (1 - X) := (hR 5 (by omega)).1.trans ((se_Kc (by omega)).mpr k5)
  have l4 : se_ld k c X = 60 := by
    rw [se_ld2 t4 (by omega) (by omega), hAm]
  have hJ : se_J X m w A B (-1) f3 a6 a7 a10 := by
    constructor
    · intro z
      have hc : X = 0 ∨ X = 1 := by omega
      rcases hc with rfl | rfl <;> exact absurd z (by decide)
    · intro z
      have hc : X = 0 ∨ X = 1 := by omega
      rcases hc with rfl | rfl <;> exact absurd z (by decide)
  have L := se_L408 (post := post) (mc := mc) (ms := ms) (kc := kc) (ks := ks) (a8 := a8) (a9 := a9) hZ hk6 hR hUs hJ hp
  have L393 : wL_lawOf_393 post mc ms (nI a) (nI b) (nI w) (nI (10 - a)) (nI (10 - b)) (nI m) (nI X) (nI B) 6 (nI (6 * (B + (w - m)))) kc ks 2 3 (-1) f3 a1 a2 a3 a4 a5 a6 a7 a8 a9 a10 := by
    unfold wL_lawOf_393
    rw [nI_add, pk_sub (show m ≤ B + w by omega), show B + (w - m) = B + w - m by omega]
    exact br_t (se_mul6 _) L
  unfold wL_lawOf_318
  rw [eX]
  refine br_t rfl (se_fc (id := 2) hUs (by omega) (by omega) v4 (br_t rfl (se_co (id := 2) hUs (by omega) (by omega) v3 (br_t rfl (se_sc1 (id := 2) hUs (by omega) (by omega) (by omega) v5 (br_t rfl (se_ldq hX2 hR l4 (br_t rfl (se_ldq (by omega) hR (se_ld2 t5 (by omega) (by omega)) (pk_eq X 0 (fun z => ?_) (fun z => ?_)))))))))))
  · have e : b = B := by
      unfold se_X at hX
      omega
    rw [← e] at L393 ⊢
    exact L393
  · have e : a = B := by
      unfold se_X at hX
      omega
    rw [← e] at L393 ⊢
    exact L393
end
end
section
section
variable {a b w : Nat}
theorem se_tail {post : Int32 → St0 → Prop} {mc ms kc ks : Nat} {f3 : Int32} {a1 a2 a3 a4 a5 a6 a7 a8 a9 a10 : Nat → Int32} {k c d : Nat → Nat} {X A B : Nat} (hQ : se_Q a b k c d) (hX : se_X a b X A B) (hA : 6 ≤ A) (hA9 : A ≤ 9) (hB : 6 ≤ B) (hB9 : B ≤ 9) (hw : w ≤ 10) (hAB : A ≤ B) (hAw : 10 < A + w) (hS : A + B + w ≤ 20) (hUs : se_Us 3 a1)
    (hR : se_R (se_u (se_u k 4 X) 5 (1 - X)) (se_u (se_u c 4 (10 - A)) 5 (w - (10 - A))) (se_u (se_u d 4 (10 - A)) 5 (10 - (10 - A))) a2 a3 a4 a5) (hp : post 1 ()) :
    wL_lawOf_318 post mc ms (nI a) (nI b) (nI w) (nI (10 - a)) (nI (10 - b)) 2 (nI (10 - A)) (nI X) kc ks 2 3 (-1) f3 a1 a2 a3 a4 a5 a6 a7 a8 a9 a10 := by
  have hX2 : X < 2 := by
    unfold se_X at hX
    omega
  have oX : se_one X A k c d ∧ se_one (1 - X) B k c d := by
    rcases hX with ⟨rfl, rfl, rfl⟩ | ⟨rfl, rfl, rfl⟩
    · exact ⟨se_Qa hQ, se_Qb hQ⟩
    · exact ⟨se_Qb hQ, se_Qa hQ⟩
  have t4 := se_22 (i := 5) (v := 1 - X) (p := w - (10 - A)) (q := 10 - (10 - A)) (se_12 (i1 := 4) (x := 10 - A) (y := 10 - A) oX.1 hX2 (by omega)) hX2 (by omega) (by omega) (by omega)
  have t5 := se_12 (i1 := 5) (x := w - (10 - A)) (y := 10 - (10 - A)) (se_11 (i := 4) (v := X) (x := 10 - A) (y := 10 - A) oX.2 (by omega) (by omega) (by omega)) (by omega) (by omega)
  have k6 : se_u (se_u k 4 X) 5 (1 - X) 6 = 2 := by
    rw [se_un (by omega), se_un (by omega)]
    exact hQ.2.2.2.2.2.2 6 (by omega) (by omega)
  exact se_L318 ⟨hX, hA, hA9, hB, hB9, by omega, by omega, hw, by omega, t4, t5⟩ k6 hR hUs hp
theorem se_R0 {a2 a3 a4 a5 : Nat → Int32} (h : ∀ j, j < 26 → a3 j = -1) : se_R (fun _ => 2) (fun _ => 0) (fun _ => 0) a2 a3 a4 a5 := fun i hi => ⟨h i hi, fun z => absurd z (show ¬ (2 : Nat) < 2 by omega)⟩
theorem se_law {post : Int32 → St0 → Prop} (p0 p1 p2 : Int32) (hp : post 1 ()) : wpL_lawOf post 180 2880 () p0 p1 p2 := by
  obtain ⟨ja, hja, ea⟩ := pk_andE p0 (m := 3) 2 (by decide)
  obtain ⟨jb, hjb, eb⟩ := pk_andE p1 (m := 3) 2 (by decide)
  obtain ⟨z, hz, ez⟩ := pk_andE p2 (m := 2147483647) 31 (by decide)
  have em : nI z - nI z / 10 * 10 = nI (z % 10) := pk_rem (d := 10) hz (by decide) (by decide)
  obtain ⟨a, ha⟩ : ∃ a, a = 6 + ja := ⟨_, rfl⟩
  obtain ⟨b, hb⟩ : ∃ b, b = 6 + jb := ⟨_, rfl⟩
  obtain ⟨w, hw⟩ : ∃ w, w = 1 + z % 10 := ⟨_, rfl⟩
  have ea' : 6 + nI ja = nI a := by
    rw [ha]
    exact nI_add 6 ja
  have eb' : 6 + nI jb = nI b := by
    rw [hb]
    exact nI_add 6 jb
  have ew' : 1 + nI (z % 10) = nI w := by
    rw [hw]
    exact nI_add 1 (z % 10)
  have ha6 : 6 ≤ a := by omega
  have ha9 : a ≤ 9 := by omega
  have hb6 : 6 ≤ b := by omega
  have hb9 : b ≤ 9 := by omega
  have hw1 : 1 ≤ w := by omega
  have hw10 : w ≤ 10 := by omega
  have hU0 : se_Us 0 (fun _ => 0) := fun j hj => (if_neg (by omega)).symm
  unfold wpL_lawOf
  rw [ea, eb, ez, em, ea', eb', ew']
  clear ea eb ez em ea' eb' ew' ha hb hw
  refine ⟨by omega, by omega, 100, 1000, by omega, by omega, se_init (by omega) (by omega) (fun a3 h3 => nm_e (nm_e ⟨by decide, nm_e (nm_r (e' := nI (10 - a)) (pk_sub (a := 10) (by omega)) (nm_r (e' := nI (10 - b)) (pk_sub (a := 10) (by omega)) ?_))⟩))⟩
  have o0 : se_one 0 a (se_u (fun _ => 2) (2 * 0) 0) (se_u (fun _ => 0) (2 * 0) a) (se_u (fun _ => 0) (2 * 0) 10) := ⟨se_us, se_us, se_us, fun i hi => by rw [se_un hi]; decide⟩
  have p0' := se_pass1 o0 (by omega) ha6 ha9
  refine se_adm (U := 0) (w := a) (se_R0 h3) hU0 (by omega) rfl (by omega) (by omega) (fun _ b3 b4 b5 hR1 => br_t rfl ?_) (fun z => absurd (p0'.symm.trans z) (by decide)) (fun z => absurd (p0'.symm.trans z) (by decide))
  have hU1 := se_Us_add hU0
  have q1 : se_two 0 2 a b 10 (se_u (se_u (fun _ => 2) (2 * 0) 0) (2 * 1) 0) (se_u (se_u (fun _ => 0) (2 * 0) a) (2 * 1) b) (se_u (se_u (fun _ => 0) (2 * 0) 10) (2 * 1) 10) :=
    ⟨(se_un (by omega)).trans o0.1, (se_un (by omega)).trans o0.2.1, (se_un (by omega)).trans o0.2.2.1, se_us, se_us, se_us, fun i g1 g2 => by rw [se_un g2]; exact o0.2.2.2 i g1⟩
  have p1' := (se_pass2 q1 (by omega) (by omega) ha6 ha9 (by omega) (by omega) (by omega)).trans (decide_eq_false (by omega))
  have hQ : se_Q a b (se_u (se_u (fun _ => 2) (2 * 0) 0) (2 * 1) 1) (se_u (se_u (fun _ => 0) (2 * 0) a) (2 * 1) b) (se_u (se_u (fun _ => 0) (2 * 0) 10) (2 * 1) 10) :=
    ⟨(se_un (by omega)).trans o0.1, (se_un (by omega)).trans o0.2.1, (se_un (by omega)).trans o0.2.2.1, se_us, se_us, se_us, fun i g1 g2 => by rw [se_un g2, se_un g1]⟩
  have p2' := se_pass1 (se_Qb hQ) (by omega) hb6 hb9
  refine se_adm (U := 1) (w := b) hR1 hU1 (by omega) (se_un (by omega)) (by omega) (by omega) (fun z => absurd (p1'.symm.trans z) (by decide)) (fun _ _ b3 b4 b5 hR2 => br_t rfl ?_) (fun _ z => absurd (p2'.symm.trans z) (by decide))
  have hU2 := se_Us_add hU1
  clear p0' p1' p2' q1 hR1
  generalize (se_u (se_u (fun _ => 2) (2 * 0) 0) (2 * 1) 1) = k at hR2 hQ
  generalize (se_u (se_u (fun _ => 0) (2 * 0) a) (2 * 1) b) = c at hR2 hQ
  generalize (se_u (se_u (fun _ => 0) (2 * 0) 10) (2 * 1) 10) = d at hR2 hQ
  have v0 : b3 (2 * 0) = 0 := (hR2 0 (by omega)).1.trans (by rw [hQ.1]; rfl)
  have v1 : b3 (2 * 1) = 1 := (hR2 2 (by omega)).1.trans (by rw [hQ.2.2.2.1]; rfl)
  refine se_co (id := 0) hU2 (by omega) (by omega) v0 (br_t rfl (se_co (id := 1) hU2 (by omega) (by omega) v1 (br_t rfl ?_)))
  refine se_adm3 hQ hR2 hU2 ha6 ha9 hb6 hb9 hw1 hw10 (fun X A B hX hAw hXw b3 b4 b5 hR3 => ?_) (fun hs hs1 hs2 b3 b4 b5 hR3 => ?_) (fun X A B hX hAB hXlt hAw hBw hs b3 b4 b5 hR3 => ?_)
  · have hU3 := se_Us_add hU2
    have H := fun mc ms kc ks => se_L134 (post := post) (mc := mc) (ms := ms) (kc := kc) (ks := ks) (f1 := 3) (f2 := -1) (f3 := 0) (a6 := fun _ => 0) (a7 := fun _ => 0) (a8 := fun _ => 0) (a9 := fun _ => 0) (a10 := fun _ => 0) hX hQ hR3 hU3 hp
    rcases hX with ⟨rfl, rfl, rfl⟩ | ⟨rfl, rfl, rfl⟩
    · exact pk_le w (10 - A) (fun _ => pk_lt (10 - A) w (fun z => absurd z (by omega)) (fun _ => H _ _ _ _)) (fun z => absurd z (by omega))
    · have hw' := hXw rfl
      exact pk_le w (10 - B) (fun z => absurd z (by omega)) (fun _ => pk_lt (10 - A) w (fun z => absurd z (by omega)) (fun _ => pk_lt (10 - B) w (fun _ => H _ _ _ _) (fun z => absurd z (by omega))))
  · refine pk_le w (10 - a) (fun z => absurd z (by omega)) (fun _ => pk_lt (10 - b) w (fun _ => pk_le w (10 - a + (10 - b)) (fun z => absurd z (by omega)) (fun _ => br_t rfl ?_) (hy := nI_add _ _)) (fun z => absurd z (by omega)))
    refine se_coN (id := 2) hU2 (by omega) (by omega) (br_t rfl (se_ldq (co := 0) (by omega) hR3 (se_ld1 (se_Qa hQ) (by omega)) (br_t (se_mul6 a) (se_ldq (co := 1) (by omega) hR3 (se_ld1 (se_Qb hQ) (by omega)) (br_t (se_mul6 b) hp)))))
  · have hU3 := se_Us_add hU2
    have hAB9 : 6 ≤ A ∧ A ≤ 9 ∧ 6 ≤ B ∧ B ≤ 9 := by
      unfold se_X at hX
      omega
    have H := fun mc ms kc ks => se_tail (post := post) (mc := mc) (ms := ms) (kc := kc) (ks := ks) (f3 := 0) (a6 := fun _ => 0) (a7 := fun _ => 0) (a8 := fun _ => 0) (a9 := fun _ => 0) (a10 := fun _ => 0) hQ hX hAB9.1 hAB9.2.1 hAB9.2.2.1 hAB9.2.2.2 hw10 hAB hAw hs hU3 hR3 hp
    rcases hX with ⟨rfl, rfl, rfl⟩ | ⟨rfl, rfl, rfl⟩
    · exact pk_le w (10 - A) (fun z => absurd z (by omega)) (fun _ => pk_lt (10 - B) w (fun _ => pk_le w (10 - A + (10 - B)) (fun _ => pk_lt (10 - A) (10 - B) (fun z => absurd z (by omega)) (fun _ => pk_lt (10 - A) (10 - B) (fun z => absurd z (by omega)) (fun _ => H _ _ _ _))) (fun z => absurd z (by omega)) (hy := nI_add _ _)) (fun z => absurd z (by omega)))
    · have hlt := hXlt rfl
      exact pk_le w (10 - B) (fun z => absurd z (by omega)) (fun _ => pk_lt (10 - A) w (fun _ => pk_le w (10 - B + (10 - A)) (fun _ => pk_lt (10 - B) (10 - A) (fun _ => pk_lt (10 - B) (10 - A) (fun _ => H _ _ _ _) (fun z => absurd z (by omega))) (fun z => absurd z (by omega))) (fun z => absurd z (by omega)) (hy := nI_add _ _)) (fun z => absurd z (by omega)))
end
theorem se_cell {post : Int32 → Prop} {L : Nat} {xs : Nat → Int32} (hL : L ≤ 3) (i : Nat) (hi : i < 3) (h : ∀ v, post v) : wpL_cellAt post L xs () (nI i) :=
  pk_le L i (fun _ => h _) (fun z => ⟨pk_in i L z, h _⟩)
theorem i_vc (xs : Nat → Int32) (L : Nat) (hL : L ≤ 3) : wpL_law (fun r => r = 1) L xs := by
  unfold wpL_law
  exact se_cell hL 0 (by omega) (fun r1 => se_cell hL 1 (by omega) (fun r2 => se_cell hL 2 (by omega) (fun r3 => ⟨180, 2880, by omega, by omega, se_law r1 r2 r3 rfl⟩)))
end
