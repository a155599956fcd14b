section
/-! indices, updates, tables -/
theorem bj_ix (a k b : Nat) : nI a * nI k + nI b = nI (a * k + b) := by rw [pk_mul, nI_add]
theorem bj_xi (b a k : Nat) : nI b + nI a * nI k = nI (b + a * k) := by rw [pk_mul, nI_add]
theorem bj_ix2 (a k b l c : Nat) : nI a * nI k + nI b * nI l + nI c = nI (a * k + b * l + c) := by rw [pk_mul, pk_mul, nI_add, nI_add]
theorem bj_ix3 (a b k c : Nat) : nI a + nI b * nI k + nI c = nI (a + b * k + c) := by rw [pk_mul, nI_add, nI_add]
theorem bj_up {a : Nat → Int32} {x v v' : Int32} (n : Nat) (hx : x = nI n) (hv : v = v') (h : n < 2 ^ 31 := by omega) : upd a x.toNatClampNeg v = upd a n v' := by
  subst hx hv
  rw [nI_clamp h]
theorem bj_upL {a : Nat → Int64} {x : Int32} {v v' : Int64} (n : Nat) (hx : x = nI n) (hv : v = v') (h : n < 2 ^ 31 := by omega) : vp_updL a x.toNatClampNeg v = vp_updL a n v' := by
  subst hx hv
  rw [nI_clamp h]
theorem bj_rd {α : Type} {a : Nat → α} {x : Int32} {v : α} (n : Nat) (hx : x = nI n) (hv : a n = v) (h : n < 2 ^ 31 := by omega) : a x.toNatClampNeg = v := by
  subst hx hv
  rw [nI_clamp h]
theorem bj_ug {p : Nat → Prop} {s f : Nat → Int32} {k : Nat} {x : Int32} (h : ∀ j, p j → j ≠ k → s j = f j) (hx : p k → x = f k) : ∀ j, p j → upd s k x j = f j := by
  intro j hj
  by_cases e : j = k
  · subst e
    rw [pk_us]
    exact hx hj
  · rw [pk_un e]
    exact h j hj e
theorem bj_ugL {p : Nat → Prop} {s f : Nat → Int64} {k : Nat} {x : Int64} (h : ∀ j, p j → j ≠ k → s j = f j) (hx : p k → x = f k) : ∀ j, p j → vp_updL s k x j = f j := by
  intro j hj
  by_cases e : j = k
  · subst e
    rw [pk_uLs]
    exact hx hj
  · rw [pk_uLn e]
    exact h j hj e
theorem bj_8 {P : Nat → Prop} (h0 : P 0) (h1 : P 1) (h2 : P 2) (h3 : P 3) (h4 : P 4) (h5 : P 5) (h6 : P 6) (h7 : P 7) : ∀ i, i < 8 → P i
  | 0, _ => h0
  | 1, _ => h1
  | 2, _ => h2
  | 3, _ => h3
  | 4, _ => h4
  | 5, _ => h5
  | 6, _ => h6
  | 7, _ => h7
  | n + 8, h => absurd h (by omega)
theorem bj_sl : ∀ n, n < 32 → ((nI n &&& 31).toBitVec.smod 32).toNat = n := by decide +kernel
/-- the picture is flat -/
def bj_P (g : Int32) (s : Nat → Int32) : Prop := ∀ j, j < 256 → s j = g
/-- the quarter wave -/
def bj_qt : Nat → Int32
  | 0 => 64
  | 1 => 63
  | 2 => 59
  | 3 => 53
  | 4 => 45
  | 5 => 36
  | 6 => 24
  | 7 => 12
  | _ => 0
def bj_Q (s : Nat → Int32) : Prop := ∀ t, t < 9 → s t = bj_qt t
/-- the order of places: below c, but for the first, no place 0 -/
def bj_O (c : Nat) (s : Nat → Int32) : Prop := ∀ j, 1 ≤ j → j < c → ∃ t : Nat, 1 ≤ t ∧ t < 64 ∧ s j = nI t
end
section
/-! the constructor, fill, quality -/
section
variable {f1 f2 f3 f4 f5 f6 f7 f8 f9 f10 f11 : Int32} {a1 a2 a3 a4 a5 a6 a7 a8 a9 a10 a11 a12 a13 a14 a15 a16 : Nat → Int32} {a17 : Nat → Int64}
def bj_vl (d k : Nat) : Nat := if d % 2 = 0 then 7 - k else k
def bj_ok (d k : Nat) : Bool := decide (bj_vl d k ≤ d) && decide (d < bj_vl d k + 8)
def bj_cn : Nat → Nat
  | 0 => 0
  | m + 1 => bj_cn m + (if bj_ok (m / 8) (m % 8) = true then 1 else 0)
theorem bj_cnF : ∀ d, d < 15 → ∀ k, k < 8 → bj_ok d k = true → bj_cn (8 * d + k) < 64 ∧ (1 ≤ bj_cn (8 * d + k) → 1 ≤ bj_vl d k * 8 + (d - bj_vl d k)) ∧ bj_vl d k * 8 + (d - bj_vl d k) < 64 := by decide +kernel
theorem bj_cnL : ∀ m, m < 121 → bj_cn m ≤ 64 := by decide +kernel
theorem bj_cnS (d k : Nat) (hk : k < 8) : bj_cn (8 * d + (k + 1)) = bj_cn (8 * d + k) + (if bj_ok d k = true then 1 else 0) := by
  show bj_cn (8 * d + k) + (if bj_ok ((8 * d + k) / 8) ((8 * d + k) % 8) = true then 1 else 0) = _
  rw [show (8 * d + k) / 8 = d by omega, show (8 * d + k) % 8 = k by omega]
theorem bj_cnE : bj_cn 120 = 64 := by decide +kernel
theorem bj_i271 {post : St2 → Prop} {mc ms kc ks : Nat} {J1 J2 : _} {c d k v : Nat} (hd : d < 15) (hv : v < 8) (hc : c ≤ 64)
    (Hn : ¬ (v ≤ d ∧ d < v + 8) → J2 (nI c) (nI (k + 1)) a1 a2 a3 a4 a5 a6 a7 a8 a9 a10 a11 a12 a13 a14 a15 a16 a17)
    (Hy : v ≤ d → d < v + 8 → c < 64 ∧ J2 (nI (c + 1)) (nI (k + 1)) a1 a2 (upd a3 c (nI (v * 8 + (d - v)))) a4 a5 a6 a7 a8 a9 a10 a11 a12 a13 a14 a15 a16 a17) :
    wX_init_271 post mc ms J1 J2 (nI c) (nI d) (nI k) (nI v) kc ks f1 f2 f3 f4 f5 f6 f7 f8 f9 f10 f11 a1 a2 a3 a4 a5 a6 a7 a8 a9 a10 a11 a12 a13 a14 a15 a16 a17 := by
  rcases Nat.lt_or_ge d v with h | h
  · exact nm_e (br_t (pk_sneg (by omega) h) (nm_r (nI_1 k) (Hn (by omega))))
  · refine nm_r (pk_sub h) (br_f (nI_pos (by omega)) (pk_le 8 (d - v) (fun z => nm_r (nI_1 k) (Hn (by omega))) (fun z => ?_)))
    have hy := Hy h (by omega)
    exact ⟨pk_in c 64 hy.1, nm_r (bj_up c rfl (bj_ix v 8 (d - v))) (nm_r (nI_1 c) (nm_r (nI_1 k) hy.2))⟩
theorem bj_i251 {post : St2 → Prop} {mc ms kc ks : Nat} {J : _} {d : Nat} (hd : d < 15) (h0 : bj_O (bj_cn (8 * d)) a3)
    (H : ∀ s, bj_O (bj_cn (8 * (d + 1))) s → J (nI (bj_cn (8 * (d + 1)))) (nI (d + 1)) a1 a2 s a4 a5 a6 a7 a8 a9 a10 a11 a12 a13 a14 a15 a16 a17) :
    ∃ n, wX_init_251 post mc ms J (nI d) kc ks f1 f2 f3 f4 f5 f6 f7 f8 f9 f10 f11 n (nI (bj_cn (8 * d))) 0 a1 a2 a3 a4 a5 a6 a7 a8 a9 a10 a11 a12 a13 a14 a15 a16 a17 := by
  refine pk_loop (fun n i s => wX_init_251 post mc ms J (nI d) kc ks f1 f2 f3 f4 f5 f6 f7 f8 f9 f10 f11 n (nI (bj_cn (8 * d + i))) (nI i) a1 a2 s a4 a5 a6 a7 a8 a9 a10 a11 a12 a13 a14 a15 a16 a17) (fun i s => bj_O (bj_cn (8 * d + i)) s) 8 0 a3 (by omega) h0
    (fun n s h => pk_le 8 8 (fun _ => nm_r (nI_1 d) (H s h)) (fun z => absurd z (by omega))) ?_
  intro n i s hi h hw
  have hS := bj_cnS d i hi
  have hw' : ∀ (c : Nat) (s' : Nat → Int32), c = bj_cn (8 * d + (i + 1)) → bj_O c s' → wX_init_251 post mc ms J (nI d) kc ks f1 f2 f3 f4 f5 f6 f7 f8 f9 f10 f11 n (nI c) (nI (i + 1)) a1 a2 s' a4 a5 a6 a7 a8 a9 a10 a11 a12 a13 a14 a15 a16 a17 := by
    intro c s' e h'
    subst e
    exact hw s' h'
  have key : wX_init_271 post mc ms J (wX_init_251 post mc ms J (nI d) kc ks f1 f2 f3 f4 f5 f6 f7 f8 f9 f10 f11 n) (nI (bj_cn (8 * d + i))) (nI d) (nI i) (nI (bj_vl d i)) kc ks f1 f2 f3 f4 f5 f6 f7 f8 f9 f10 f11 a1 a2 s a4 a5 a6 a7 a8 a9 a10 a11 a12 a13 a14 a15 a16 a17 := by
    have hv : bj_vl d i < 8 := by unfold bj_vl; split <;> omega
    refine bj_i271 hd hv (bj_cnL _ (by omega)) (fun hn => ?_) (fun h1 h2 => ?_)
    · have e : ¬ bj_ok d i = true := by
        intro e
        simp only [bj_ok, Bool.and_eq_true, decide_eq_true_eq] at e
        exact hn e
      rw [if_neg e] at hS
      exact hw' _ s hS.symm h
    · have e : bj_ok d i = true := by
        simp only [bj_ok, Bool.and_eq_true, decide_eq_true_eq]
        exact ⟨h1, h2⟩
      rw [if_pos e] at hS
      obtain ⟨c1, c2, c3⟩ := bj_cnF d hd i hi e
      refine ⟨c1, hw' _ _ hS.symm (fun j j1 j2 => ?_)⟩
      by_cases ej : j = bj_cn (8 * d + i)
      · subst ej
        exact ⟨_, c2 j1, c3, pk_us⟩
      · rw [pk_un ej]
        exact h j j1 (by omega)
  refine pk_le 8 i (fun z => absurd z (by omega)) (fun _ => pk_eq (d % 2) 0 (fun e => ?_) (fun e => ?_) (pk_andN (by omega) 1 rfl))
  · rw [show (7 : Int32) - nI i = nI (bj_vl d i) from (pk_sub (a := 7) (by omega)).trans (by rw [bj_vl, if_pos e])]
    exact key
  · rw [show bj_vl d i = i by rw [bj_vl, if_neg e]] at key
    exact key
theorem bj_i243 {post : St2 → Prop} {mc ms kc ks : Nat}
    (H : ∀ s, bj_O 64 s → post (1, 4, 1, 4, 2, f6, f7, f8, f9, f10, f11, a1, a2, s, a4, upd (upd a5 0 255) 1 208, a6, a7, a8, a9, a10, a11, a12, a13, a14, a15, a16, a17)) :
    ∃ n, wX_init_243 post mc ms kc ks f1 f2 f3 f4 f5 f6 f7 f8 f9 f10 f11 n 0 0 a1 a2 a3 a4 a5 a6 a7 a8 a9 a10 a11 a12 a13 a14 a15 a16 a17 :=
  pk_loop (fun n i s => wX_init_243 post mc ms kc ks f1 f2 f3 f4 f5 f6 f7 f8 f9 f10 f11 n (nI (bj_cn (8 * i))) (nI i) a1 a2 s a4 a5 a6 a7 a8 a9 a10 a11 a12 a13 a14 a15 a16 a17) (fun i s => bj_O (bj_cn (8 * i)) s) 15 0 a3 (by omega) (fun j h1 h2 => absurd (show j < 0 from h2) (by omega))
    (fun n s h => pk_le 15 15 (fun _ => nm_e (nm_e (H s (bj_cnE ▸ h)))) (fun z => absurd z (by omega)))
    (fun n i s hi h hw => pk_le 15 i (fun z => absurd z (by omega)) (fun _ => bj_i251 hi h (fun s' h' => hw s' h')))
theorem bj_i151 {post : St2 → Prop} {mc ms kc ks : Nat}
    (H : ∀ s1 s2 s3 s5, bj_P 128 s1 → bj_Q s2 → bj_O 64 s3 → post (1, 4, 1, 4, 2, f6, f7, f8, f9, f10, f11, s1, s2, s3, a4, s5, a6, a7, a8, a9, a10, a11, a12, a13, a14, a15, a16, a17)) (h8 : a2 8 = 0) :
    ∃ n, wX_init_151 post mc ms kc ks f1 f2 f3 f4 f5 f6 f7 f8 f9 f10 f11 n 0 a1 a2 a3 a4 a5 a6 a7 a8 a9 a10 a11 a12 a13 a14 a15 a16 a17 := by
  refine pk_loop (fun n i s => wX_init_151 post mc ms kc ks f1 f2 f3 f4 f5 f6 f7 f8 f9 f10 f11 n (nI i) s a2 a3 a4 a5 a6 a7 a8 a9 a10 a11 a12 a13 a14 a15 a16 a17) (fun i s => ∀ j, j < i → s j = 128) 256 0 a1 (by omega) (fun j h => absurd h (by omega)) ?_
    (fun n i s hi h hw => pk_le 256 i (fun z => absurd z (by omega)) (fun _ => ⟨pk_in i 256 hi, nm_r (bj_up i rfl rfl) (nm_r (nI_1 i) (hw _ (bj_ug (fun j hj hn => h j (by omega)) (fun _ => rfl))))⟩))
  intro n s h
  refine pk_le 256 256 (fun _ => ?_) (fun z => absurd z (by omega))
  refine nm_e (nm_e (nm_e (nm_e (nm_e (nm_e (nm_e (nm_e ?_)))))))
  refine bj_i243 (fun s3 h3 => H _ _ _ _ h ?_ h3)
  intro t ht
  rcases Nat.lt_or_ge t 8 with z | z
  · refine bj_8 (P := fun t => upd (upd (upd (upd (upd (upd (upd (upd a2 0 64) 1 63) 2 59) 3 53) 4 45) 5 36) 6 24) 7 12 t = bj_qt t) rfl rfl rfl rfl rfl rfl rfl rfl t z
  · have e : t = 8 := by omega
    subst e
    exact h8
theorem bj_init {post : St2 → Prop} (H : ∀ a1 a2 a3 a4 a5 a6 a7 a8 a9 a10 a11 a12 a13 a14 a15 a16 a17, bj_P 128 a1 → bj_Q a2 → bj_O 64 a3 → post (1, 4, 1, 4, 2, 0, 0, 0, 0, 0, 0, a1, a2, a3, a4, a5, a6, a7, a8, a9, a10, a11, a12, a13, a14, a15, a16, a17)) :
    wpX_init post 17 4939 (0, 0, 0, 0, 0, 0, 0, 0, 0, 0, 0) := by
  unfold wpX_init
  dsimp only
  refine ⟨by omega, by omega, by omega, by omega, by omega, by omega, by omega, by omega, by omega, by omega, by omega, by omega, by omega, by omega, by omega, by omega, by omega, by omega, by omega, by omega, by omega, by omega, by omega, by omega, by omega, by omega, by omega, by omega, by omega, by omega, by omega, by omega, by omega, by omega, ?_⟩
  exact bj_i151 (fun s1 s2 s3 s5 h1 h2 h3 => H _ _ _ _ _ _ _ _ _ _ _ _ _ _ _ _ _ h1 h2 h3) rfl
theorem bj_f40 {post : Int32 → St2 → Prop} {J : _} {x1 g : Int32} {y : Nat} (hy : y < 16) (h0 : ∀ j, j < y * 16 → a1 j = g)
    (H : ∀ s, (∀ j, j < (y + 1) * 16 → s j = g) → J (nI (y + 1)) s a2 a3 a4 a5 a6 a7 a8 a9 a10 a11 a12 a13 a14 a15 a16 a17) : ∃ n, wX_fill_40 post J x1 g (nI y) f1 f2 f3 f4 f5 f6 f7 f8 f9 f10 f11 n 0 a1 a2 a3 a4 a5 a6 a7 a8 a9 a10 a11 a12 a13 a14 a15 a16 a17 :=
  pk_loop (fun n i s => wX_fill_40 post J x1 g (nI y) f1 f2 f3 f4 f5 f6 f7 f8 f9 f10 f11 n (nI i) s a2 a3 a4 a5 a6 a7 a8 a9 a10 a11 a12 a13 a14 a15 a16 a17) (fun i s => ∀ j, j < y * 16 + i → s j = g) 16 0 a1 (by omega) h0
    (fun n s h => pk_le 16 16 (fun _ => nm_r (nI_1 y) (H s (fun j hj => h j (by omega)))) (fun z => absurd z (by omega)))
    (fun n i s hi h hw => pk_le 16 i (fun z => absurd z (by omega)) (fun _ => ⟨pk_in (y * 16 + i) 256 (by omega) (bj_ix y 16 i), nm_r (bj_up (y * 16 + i) (bj_ix y 16 i) rfl) (nm_r (nI_1 i) (hw _ (bj_ug (fun j hj hn => h j (by omega)) (fun _ => rfl))))⟩))
theorem bj_f30 {post : Int32 → St2 → Prop} {g : Int32} (H : ∀ s, bj_P g s → post 0 (f1, f2, f3, f4, f5, f6, f7, f8, f9, f10, f11, s, a2, a3, a4, a5, a6, a7, a8, a9, a10, a11, a12, a13, a14, a15, a16, a17)) : ∃ n, wX_fill_30 post 0 g f1 f2 f3 f4 f5 f6 f7 f8 f9 f10 f11 n 0 a1 a2 a3 a4 a5 a6 a7 a8 a9 a10 a11 a12 a13 a14 a15 a16 a17 :=
  pk_loop (fun n i s => wX_fill_30 post 0 g f1 f2 f3 f4 f5 f6 f7 f8 f9 f10 f11 n (nI i) s a2 a3 a4 a5 a6 a7 a8 a9 a10 a11 a12 a13 a14 a15 a16 a17) (fun i s => ∀ j, j < i * 16 → s j = g) 16 0 a1 (by omega) (fun j h => absurd h (by omega))
    (fun n s h => pk_le 16 16 (fun _ => H s h) (fun z => absurd z (by omega)))
    (fun n i s hi h hw => pk_le 16 i (fun z => absurd z (by omega)) (fun _ => bj_f40 hi h (fun s' h' => hw s' h')))
theorem bj_fill {post : Int32 → St2 → Prop} {g : Int32} (Hb : (g < 0 ∨ ¬ g ≤ 255) → post (-1000000) (f1, f2, f3, f4, f5, f6, f7, f8, f9, f10, f11, a1, a2, a3, a4, a5, a6, a7, a8, a9, a10, a11, a12, a13, a14, a15, a16, a17))
    (Hg : ¬ g < 0 → g ≤ 255 → ∀ s, bj_P g s → post 0 (f1, f2, f3, f4, f5, f6, f7, f8, f9, f10, f11, s, a2, a3, a4, a5, a6, a7, a8, a9, a10, a11, a12, a13, a14, a15, a16, a17)) : wpX_fill post (f1, f2, f3, f4, f5, f6, f7, f8, f9, f10, f11, a1, a2, a3, a4, a5, a6, a7, a8, a9, a10, a11, a12, a13, a14, a15, a16, a17) 0 0 g :=
  br_f (by decide) (br_t (by decide) (br_t rfl (br_f (by decide) (br_t (by decide) (br_t rfl (br_c (fun h => br_f (by decide) (Hb (Or.inl h))) (fun h => br_c (fun h2 => br_t rfl (bj_f30 (Hg h h2))) (fun h2 => br_f (by decide) (Hb (Or.inr h2))))))))))
theorem bj_quality {post : Int32 → St2 → Prop} {g : Int32} (Hb : (g < 1 ∨ ¬ g ≤ 8) → post (-1000000) (f1, f2, f3, f4, f5, f6, f7, f8, f9, f10, f11, a1, a2, a3, a4, a5, a6, a7, a8, a9, a10, a11, a12, a13, a14, a15, a16, a17))
    (Hg : ¬ g < 1 → g ≤ 8 → post f1 (g, f2, f3, f4, f5, f6, f7, f8, f9, f10, f11, a1, a2, a3, a4, a5, a6, a7, a8, a9, a10, a11, a12, a13, a14, a15, a16, a17)) : wpX_quality post (f1, f2, f3, f4, f5, f6, f7, f8, f9, f10, f11, a1, a2, a3, a4, a5, a6, a7, a8, a9, a10, a11, a12, a13, a14, a15, a16, a17) g :=
  br_c (fun h => Hb (Or.inl h)) (fun h => br_c (fun h2 => Hg h h2) (fun h2 => Hb (Or.inr h2)))
end
end
section
/-! wave, folded, transform, quantise -/
section
variable {f1 f2 f3 f4 f5 f6 f7 f8 f9 f10 f11 : Int32} {a1 a2 a3 a4 a5 a6 a7 a8 a9 a10 a11 a12 a13 a14 a15 a16 : Nat → Int32} {a17 : Nat → Int64}
def bj_wt (t : Nat) : Int32 := if t ≤ 8 then bj_qt t else if t ≤ 16 then -bj_qt (16 - t) else if t ≤ 24 then -bj_qt (t - 16) else bj_qt (32 - t)
theorem bj_wave {post : Int32 → Prop} {u i : Nat} (hu : u < 8) (hi : i < 8) (hq : bj_Q a2) (H : post (bj_wt ((2 * i + 1) * u % 32))) : wpX_wave post (f1, f2, f3, f4, f5, f6, f7, f8, f9, f10, f11, a1, a2, a3, a4, a5, a6, a7, a8, a9, a10, a11, a12, a13, a14, a15, a16, a17) (nI u) (nI i) := by
  have he : ((2 * nI i + 1) * nI u) &&& 31 = nI ((2 * i + 1) * u % 32) := by
    have e : (2 * nI i + 1) * nI u = nI ((2 * i + 1) * u) := by
      rw [show (2 : Int32) * nI i = nI (2 * i) from pk_mul 2 i, nI_1, pk_mul]
    have hb : (2 * i + 1) * u < 2 ^ 32 := Nat.lt_of_le_of_lt (Nat.mul_le_mul (show 2 * i + 1 ≤ 15 by omega) (show u ≤ 7 by omega)) (by decide)
    rw [e]
    exact pk_andN hb 5 rfl
  have ht : (2 * i + 1) * u % 32 < 32 := Nat.mod_lt _ (by decide)
  generalize (2 * i + 1) * u % 32 = t at he ht H
  refine nm_r he (pk_lt 8 t (fun h8 => pk_lt 16 t (fun h16 => pk_lt 24 t (fun h24 => ⟨pk_in (32 - t) 9 (by omega) (pk_sub (a := 32) (by omega)), ?_⟩) (fun h24 => ⟨pk_in (t - 16) 9 (by omega) (pk_sub (b := 16) (by omega)), ?_⟩)) (fun h16 => ⟨pk_in (16 - t) 9 (by omega) (pk_sub (a := 16) (by omega)), ?_⟩)) (fun h8 => ⟨pk_in t 9 (by omega), ?_⟩))
  · rw [bj_wt, if_neg (by omega), if_neg (by omega), if_neg (by omega)] at H
    exact ek_v (P := post) (bj_rd (32 - t) (pk_sub (a := 32) (by omega)) (hq _ (by omega))) H
  · rw [bj_wt, if_neg (by omega), if_neg (by omega), if_pos (by omega)] at H
    exact ek_v (P := fun z => post (-z)) (bj_rd (t - 16) (pk_sub (b := 16) (by omega)) (hq _ (by omega))) H
  · rw [bj_wt, if_neg (by omega), if_pos (by omega)] at H
    exact ek_v (P := fun z => post (-z)) (bj_rd (16 - t) (pk_sub (a := 16) (by omega)) (hq _ (by omega))) H
  · rw [bj_wt, if_pos (by omega)] at H
    exact ek_v (P := post) (bj_rd t rfl (hq _ (by omega))) H
def bj_sm (c : Int32) (u : Nat) : Nat → Int32
  | 0 => 0
  | i + 1 => bj_sm c u i + (if u % 2 = 0 then c + c else c - c) * bj_wt ((2 * i + 1) * u % 32)
theorem bj_smS (c : Int32) (u i : Nat) : bj_sm c u (i + 1) = bj_sm c u i + (if u % 2 = 0 then c + c else c - c) * bj_wt ((2 * i + 1) * u % 32) := rfl
theorem bj_sm4 (c : Int32) : ∀ u, u < 8 → bj_sm c u 4 = if u = 0 then 512 * c else 0 := by
  apply bj_8
  · show 0 + (c + c) * 64 + (c + c) * 64 + (c + c) * 64 + (c + c) * 64 = 512 * c
    grind
  · show 0 + (c - c) * 63 + (c - c) * 53 + (c - c) * 36 + (c - c) * 12 = 0
    grind
  · show 0 + (c + c) * 59 + (c + c) * 24 + (c + c) * (-24) + (c + c) * (-59) = 0
    grind
  · show 0 + (c - c) * 53 + (c - c) * (-12) + (c - c) * (-63) + (c - c) * (-36) = 0
    grind
  · show 0 + (c + c) * 45 + (c + c) * (-45) + (c + c) * (-45) + (c + c) * 45 = 0
    grind
  · show 0 + (c - c) * 36 + (c - c) * (-63) + (c - c) * 12 + (c - c) * 53 = 0
    grind
  · show 0 + (c + c) * 24 + (c + c) * (-59) + (c + c) * 59 + (c + c) * (-24) = 0
    grind
  · show 0 + (c - c) * 12 + (c - c) * (-36) + (c - c) * 53 + (c - c) * (-63) = 0
    grind
theorem bj_fo {post : Int32 → Prop} {f s u : Nat} {x1 x2 x3 c : Int32} (e1 : x1 = nI f) (e2 : x2 = nI s) (e3 : x3 = nI u) (hu : u < 8) (hf : f + 7 * s < 64) (hq : bj_Q a2) (hc : ∀ i, i < 8 → a15 (f + i * s) = c)
    (H : post (if u = 0 then 512 * c else 0)) : wpX_folded post (f1, f2, f3, f4, f5, f6, f7, f8, f9, f10, f11, a1, a2, a3, a4, a5, a6, a7, a8, a9, a10, a11, a12, a13, a14, a15, a16, a17) x1 x2 x3 := by
  subst e1 e2 e3
  refine pk_loop (fun n i x => wX_folded_6 post (nI f) (nI s) (nI u) f1 f2 f3 f4 f5 f6 f7 f8 f9 f10 f11 a1 a2 a3 a4 a5 a6 a7 a8 a9 a10 a11 a12 a13 a14 a15 a16 a17 n x (nI i)) (fun i x => x = bj_sm c u i) 4 0 0 (by omega) rfl (fun n x h => pk_le 4 4 (fun _ => ?_) (fun z => absurd z (by omega))) ?_
  · have h' : x = bj_sm c u 4 := h
    rw [← bj_sm4 c u hu, ← h'] at H
    exact H
  · intro n i x hi h hw
    have b1 : f + i * s < 64 := by
      have := Nat.mul_le_mul_right s (show i ≤ 7 by omega)
      omega
    have b2 : f + (7 - i) * s < 64 := by
      have := Nat.mul_le_mul_right s (show 7 - i ≤ 7 by omega)
      omega
    have e2 : nI f + ((7 : Int32) - nI i) * nI s = nI (f + (7 - i) * s) := by
      rw [show (7 : Int32) - nI i = nI (7 - i) from pk_sub (a := 7) (by omega)]
      exact bj_xi f (7 - i) s
    have h' : x = bj_sm c u i := h
    have hw' := hw (bj_sm c u (i + 1)) rfl
    refine pk_le 4 i (fun z => absurd z (by omega)) (fun _ => ⟨pk_in (f + i * s) 64 b1 (bj_xi f i s), nm_r (bj_rd (f + i * s) (bj_xi f i s) (hc i (by omega))) ⟨pk_in (f + (7 - i) * s) 64 b2 e2, nm_r (bj_rd (f + (7 - i) * s) e2 (hc (7 - i) (by omega))) (pk_eq (u % 2) 0 (fun e => ?_) (fun e => ?_) (pk_andN (by omega) 1 rfl))⟩⟩)
    · exact bj_wave hu (by omega) hq (nm_r (by rw [h', bj_smS, if_pos e]) (nm_r (nI_1 i) hw'))
    · exact bj_wave hu (by omega) hq (nm_r (by rw [h', bj_smS, if_neg e]) (nm_r (nI_1 i) hw'))
/-- the sums behind the rows, the sums behind the columns -/
def bj_R (c : Int32) (k : Nat) : Int32 := if k % 8 = 0 then 512 * c else 0
def bj_S (c : Int32) (k : Nat) : Int32 := if k = 0 then 262144 * c else 0
theorem bj_t17 {post : St2 → Prop} {J : _} {o j : Nat} {g c : Int32} (hj : j < 8) (ho : o + 119 < 256) (hp : bj_P g a1) (hc : g - 128 = c) (h0 : ∀ k, k < j * 8 → a15 k = c)
    (H : ∀ s, (∀ k, k < (j + 1) * 8 → s k = c) → J (nI (j + 1)) a1 a2 a3 a4 a5 a6 a7 a8 a9 a10 a11 a12 a13 a14 s a16 a17) : ∃ n, wX_transform_17 post J (nI o) (nI j) f1 f2 f3 f4 f5 f6 f7 f8 f9 f10 f11 n 0 a1 a2 a3 a4 a5 a6 a7 a8 a9 a10 a11 a12 a13 a14 a15 a16 a17 :=
  pk_loop (fun n i s => wX_transform_17 post J (nI o) (nI j) f1 f2 f3 f4 f5 f6 f7 f8 f9 f10 f11 n (nI i) a1 a2 a3 a4 a5 a6 a7 a8 a9 a10 a11 a12 a13 a14 s a16 a17) (fun i s => ∀ k, k < j * 8 + i → s k = c) 8 0 a15 (by omega) h0
    (fun n s h => pk_le 8 8 (fun _ => nm_r (nI_1 j) (H s (fun k hk => h k (by omega)))) (fun z => absurd z (by omega)))
    (fun n i s hi h hw => pk_le 8 i (fun z => absurd z (by omega)) (fun _ => ⟨pk_in (o + j * 16 + i) 256 (by omega) (bj_ix3 o j 16 i), pk_in (j * 8 + i) 64 (by omega) (bj_ix j 8 i), nm_r (bj_up (v' := c) (j * 8 + i) (bj_ix j 8 i) ((congrArg (fun z => z - 128) (bj_rd (o + j * 16 + i) (bj_ix3 o j 16 i) (hp _ (by omega)))).trans hc)) (nm_r (nI_1 i) (hw _ (bj_ug (fun k hk hn => h k (by omega)) (fun _ => rfl))))⟩))
theorem bj_t8 {post : St2 → Prop} {o : Nat} {g c : Int32} (ho : o + 119 < 256) (hp : bj_P g a1) (hc : g - 128 = c)
    (H : ∀ s, (∀ k, k < 64 → s k = c) → ∃ n, wX_transform_68 post f1 f2 f3 f4 f5 f6 f7 f8 f9 f10 f11 n 0 a1 a2 a3 a4 a5 a6 a7 a8 a9 a10 a11 a12 a13 a14 s a16 a17) : ∃ n, wX_transform_8 post (nI o) f1 f2 f3 f4 f5 f6 f7 f8 f9 f10 f11 n 0 a1 a2 a3 a4 a5 a6 a7 a8 a9 a10 a11 a12 a13 a14 a15 a16 a17 :=
  pk_loop (fun n i s => wX_transform_8 post (nI o) f1 f2 f3 f4 f5 f6 f7 f8 f9 f10 f11 n (nI i) a1 a2 a3 a4 a5 a6 a7 a8 a9 a10 a11 a12 a13 a14 s a16 a17) (fun i s => ∀ k, k < i * 8 → s k = c) 8 0 a15 (by omega) (fun k hk => absurd hk (by omega))
    (fun n s h => pk_le 8 8 (fun _ => H s h) (fun z => absurd z (by omega)))
    (fun n i s hi h hw => pk_le 8 i (fun z => absurd z (by omega)) (fun _ => bj_t17 hi ho hp hc h (fun s' h' => hw s' h')))
theorem bj_t77 {post : St2 → Prop} {J : _} {j : Nat} {c : Int32} (hj : j < 8) (hq : bj_Q a2) (hc : ∀ k, k < 64 → a15 k = c) (h0 : ∀ k, k < j * 8 → a16 k = bj_R c k)
    (H : ∀ s, (∀ k, k < (j + 1) * 8 → s k = bj_R c k) → J (nI (j + 1)) a1 a2 a3 a4 a5 a6 a7 a8 a9 a10 a11 a12 a13 a14 a15 s a17) : ∃ n, wX_transform_77 post J (nI j) f1 f2 f3 f4 f5 f6 f7 f8 f9 f10 f11 n 0 a1 a2 a3 a4 a5 a6 a7 a8 a9 a10 a11 a12 a13 a14 a15 a16 a17 :=
  pk_loop (fun n i s => wX_transform_77 post J (nI j) f1 f2 f3 f4 f5 f6 f7 f8 f9 f10 f11 n (nI i) a1 a2 a3 a4 a5 a6 a7 a8 a9 a10 a11 a12 a13 a14 a15 s a17) (fun i s => ∀ k, k < j * 8 + i → s k = bj_R c k) 8 0 a16 (by omega) h0
    (fun n s h => pk_le 8 8 (fun _ => nm_r (nI_1 j) (H s (fun k hk => h k (by omega)))) (fun z => absurd z (by omega)))
    (fun n i s hi h hw => pk_le 8 i (fun z => absurd z (by omega)) (fun _ => bj_fo (f := j * 8) (s := 1) (u := i) (c := c) (pk_mul j 8) rfl rfl hi (by omega) hq (fun t ht => hc _ (by omega))
      ⟨pk_in (j * 8 + i) 64 (by omega) (bj_ix j 8 i), nm_r (bj_up (v' := bj_R c (j * 8 + i)) (j * 8 + i) (bj_ix j 8 i) (by rw [bj_R, show (j * 8 + i) % 8 = i by omega])) (nm_r (nI_1 i) (hw _ (bj_ug (fun k hk hn => h k (by omega)) (fun _ => rfl))))⟩))
theorem bj_t68 {post : St2 → Prop} {c : Int32} (hq : bj_Q a2) (hc : ∀ k, k < 64 → a15 k = c)
    (H : ∀ s, (∀ k, k < 64 → s k = bj_R c k) → ∃ n, wX_transform_121 post f1 f2 f3 f4 f5 f6 f7 f8 f9 f10 f11 n 0 a1 a2 a3 a4 a5 a6 a7 a8 a9 a10 a11 a12 a13 a14 a15 s a17) : ∃ n, wX_transform_68 post f1 f2 f3 f4 f5 f6 f7 f8 f9 f10 f11 n 0 a1 a2 a3 a4 a5 a6 a7 a8 a9 a10 a11 a12 a13 a14 a15 a16 a17 :=
  pk_loop (fun n i s => wX_transform_68 post f1 f2 f3 f4 f5 f6 f7 f8 f9 f10 f11 n (nI i) a1 a2 a3 a4 a5 a6 a7 a8 a9 a10 a11 a12 a13 a14 a15 s a17) (fun i s => ∀ k, k < i * 8 → s k = bj_R c k) 8 0 a16 (by omega) (fun k hk => absurd hk (by omega))
    (fun n s h => pk_le 8 8 (fun _ => H s h) (fun z => absurd z (by omega)))
    (fun n i s hi h hw => pk_le 8 i (fun z => absurd z (by omega)) (fun _ => bj_t77 hi hq hc h (fun s' h' => hw s' h')))
theorem bj_t121 {post : St2 → Prop} (H : ∀ s, (∀ k, k < 64 → s k = a16 k) → ∃ n, wX_transform_147 post f1 f2 f3 f4 f5 f6 f7 f8 f9 f10 f11 n 0 a1 a2 a3 a4 a5 a6 a7 a8 a9 a10 a11 a12 a13 a14 s a16 a17) : ∃ n, wX_transform_121 post f1 f2 f3 f4 f5 f6 f7 f8 f9 f10 f11 n 0 a1 a2 a3 a4 a5 a6 a7 a8 a9 a10 a11 a12 a13 a14 a15 a16 a17 :=
  pk_loop (fun n i s => wX_transform_121 post f1 f2 f3 f4 f5 f6 f7 f8 f9 f10 f11 n (nI i) a1 a2 a3 a4 a5 a6 a7 a8 a9 a10 a11 a12 a13 a14 s a16 a17) (fun i s => ∀ k, k < i → s k = a16 k) 64 0 a15 (by omega) (fun k hk => absurd hk (by omega))
    (fun n s h => pk_le 64 64 (fun _ => H s h) (fun z => absurd z (by omega)))
    (fun n i s hi h hw => pk_le 64 i (fun z => absurd z (by omega)) (fun _ => ⟨pk_in i 64 hi, pk_in i 64 hi, nm_r (bj_up (v' := a16 i) i rfl (bj_rd i rfl rfl)) (nm_r (nI_1 i) (hw _ (bj_ug (fun k hk hn => h k (by omega)) (fun _ => rfl))))⟩))
theorem bj_Sv (c : Int32) (u v : Nat) : (if v = 0 then 512 * (if u = 0 then 512 * c else 0) else 0) = bj_S c (v * 8 + u) := by
  unfold bj_S
  by_cases hv : v = 0
  · by_cases hu : u = 0
    · subst hv hu
      show 512 * (512 * c) = 262144 * c
      grind
    · rw [if_pos hv, if_neg hu, if_neg (by omega)]
      rfl
  · rw [if_neg hv, if_neg (by omega)]
theorem bj_t156 {post : St2 → Prop} {J : _} {u : Nat} {c : Int32} (hu : u < 8) (hq : bj_Q a2) (hc : ∀ k, k < 64 → a15 k = bj_R c k) (h0 : ∀ k, (k < 64 ∧ k % 8 < u) → a16 k = bj_S c k)
    (H : ∀ s, (∀ k, (k < 64 ∧ k % 8 < u + 1) → s k = bj_S c k) → J (nI (u + 1)) a1 a2 a3 a4 a5 a6 a7 a8 a9 a10 a11 a12 a13 a14 a15 s a17) : ∃ n, wX_transform_156 post J (nI u) f1 f2 f3 f4 f5 f6 f7 f8 f9 f10 f11 n 0 a1 a2 a3 a4 a5 a6 a7 a8 a9 a10 a11 a12 a13 a14 a15 a16 a17 :=
  pk_loop (fun n i s => wX_transform_156 post J (nI u) f1 f2 f3 f4 f5 f6 f7 f8 f9 f10 f11 n (nI i) a1 a2 a3 a4 a5 a6 a7 a8 a9 a10 a11 a12 a13 a14 a15 s a17) (fun i s => ∀ k, (k < 64 ∧ (k % 8 < u ∨ (k % 8 = u ∧ k / 8 < i))) → s k = bj_S c k) 8 0 a16 (by omega) (fun k hk => h0 k (by omega))
    (fun n s h => pk_le 8 8 (fun _ => nm_r (nI_1 u) (H s (fun k hk => h k (by omega)))) (fun z => absurd z (by omega)))
    (fun n i s hi h hw => pk_le 8 i (fun z => absurd z (by omega)) (fun _ => bj_fo (f := u) (s := 8) (u := i) (c := if u = 0 then 512 * c else 0) rfl rfl rfl hi (by omega) hq (fun t ht => (hc _ (by omega)).trans (by rw [bj_R, show (u + t * 8) % 8 = u by omega]))
      ⟨pk_in (i * 8 + u) 64 (by omega) (bj_ix i 8 u), nm_r (bj_up (v' := bj_S c (i * 8 + u)) (i * 8 + u) (bj_ix i 8 u) (bj_Sv c u i)) (nm_r (nI_1 i) (hw _ (bj_ug (fun k hk hn => h k (by omega)) (fun _ => rfl))))⟩))
theorem bj_t147 {post : St2 → Prop} {c : Int32} (hq : bj_Q a2) (hc : ∀ k, k < 64 → a15 k = bj_R c k)
    (H : ∀ s, (∀ k, k < 64 → s k = bj_S c k) → post (f1, f2, f3, f4, f5, f6, f7, f8, f9, f10, f11, a1, a2, a3, a4, a5, a6, a7, a8, a9, a10, a11, a12, a13, a14, a15, s, a17)) : ∃ n, wX_transform_147 post f1 f2 f3 f4 f5 f6 f7 f8 f9 f10 f11 n 0 a1 a2 a3 a4 a5 a6 a7 a8 a9 a10 a11 a12 a13 a14 a15 a16 a17 :=
  pk_loop (fun n i s => wX_transform_147 post f1 f2 f3 f4 f5 f6 f7 f8 f9 f10 f11 n (nI i) a1 a2 a3 a4 a5 a6 a7 a8 a9 a10 a11 a12 a13 a14 a15 s a17) (fun i s => ∀ k, (k < 64 ∧ k % 8 < i) → s k = bj_S c k) 8 0 a16 (by omega) (fun k hk => absurd hk.2 (by omega))
    (fun n s h => pk_le 8 8 (fun _ => H s (fun k hk => h k (by omega))) (fun z => absurd z (by omega)))
    (fun n i s hi h hw => pk_le 8 i (fun z => absurd z (by omega)) (fun _ => bj_t156 hi hq hc h (fun s' h' => hw s' h')))
theorem bj_co : ∀ b, b < 4 → (((nI b >>> ((1 : Int32) &&& 31)) * 8) * 16) + ((nI b &&& 1) * 8) = nI (b / 2 * 128 + b % 2 * 8) := by decide +kernel
theorem bj_tr {post : St2 → Prop} {b : Nat} {g c : Int32} (hb : b < 4) (hp : bj_P g a1) (hq : bj_Q a2) (hc : g - 128 = c)
    (H : ∀ s15 s16, (∀ k, k < 64 → s16 k = bj_S c k) → post (f1, f2, f3, f4, f5, f6, f7, f8, f9, f10, f11, a1, a2, a3, a4, a5, a6, a7, a8, a9, a10, a11, a12, a13, a14, s15, s16, a17)) : wpX_transform post (f1, f2, f3, f4, f5, f6, f7, f8, f9, f10, f11, a1, a2, a3, a4, a5, a6, a7, a8, a9, a10, a11, a12, a13, a14, a15, a16, a17) (nI b) := by
  have main : ∃ n, wX_transform_8 post (nI (b / 2 * 128 + b % 2 * 8)) f1 f2 f3 f4 f5 f6 f7 f8 f9 f10 f11 n 0 a1 a2 a3 a4 a5 a6 a7 a8 a9 a10 a11 a12 a13 a14 a15 a16 a17 :=
    bj_t8 (by omega) hp hc (fun s hs => bj_t68 hq hs (fun s2 h2 => bj_t121 (fun s3 h3 => bj_t147 hq (fun k hk => (h3 k hk).trans (h2 k hk)) (fun s4 h4 => H s3 s4 h4))))
  rw [← bj_co b hb] at main
  exact main
/-- what quantising a sum s by d answers -/
def bj_D (s : Int32) (d : Nat) (r : Int32) : Prop :=
  (∃ m : Nat, m < 2 ^ 26 ∧ s = nI m ∧ r = nI ((2 * m + d) / (2 * d))) ∨ (∃ m : Nat, 0 < m ∧ m < 2 ^ 26 ∧ s = -nI m ∧ r = -nI ((2 * m + d) / (2 * d)))
def bj_L (lv : Int32) (j : Nat) : Int32 := if j % 64 = 0 then lv else 0
theorem bj_D0 {d : Nat} (hd : 0 < d) : bj_D 0 d 0 := by
  refine Or.inl ⟨0, by decide, rfl, ?_⟩
  rw [show (2 * 0 + d) / (2 * d) = 0 from Nat.div_eq_of_lt (by omega)]
  rfl
theorem bj_nle {m : Nat} (h0 : 0 < m) (hm : m < 2 ^ 31) : ¬ (0 : Int32) ≤ -nI m := by
  rw [Int32.le_iff_toInt_le, sb_negT hm]
  show ¬ (0 : Int) ≤ -(m : Int)
  omega
theorem bj_q78 {post : St2 → Prop} {J7 J15 : _} {b v u : Nat} {x5 z0 r : Int32} (hi : b * 64 + v * 8 + u < 256) (hr : (0 ≤ x5 ∧ z0 = r) ∨ (¬ 0 ≤ x5 ∧ -z0 = r))
    (H : J15 (nI (u + 1)) a1 a2 a3 a4 a5 a6 a7 a8 a9 a10 a11 a12 (upd a13 (b * 64 + v * 8 + u) r) a14 a15 a16 a17) : wX_quantise_78 post J7 J15 (nI b) (nI v) (nI u) x5 z0 f1 f2 f3 f4 f5 f6 f7 f8 f9 f10 f11 a1 a2 a3 a4 a5 a6 a7 a8 a9 a10 a11 a12 a13 a14 a15 a16 a17 := by
  rcases hr with ⟨h, e⟩ | ⟨h, e⟩
  · exact br_t h ⟨pk_in (b * 64 + v * 8 + u) 256 hi (bj_ix2 b 64 v 8 u), nm_r (bj_up (v' := r) (b * 64 + v * 8 + u) (bj_ix2 b 64 v 8 u) e) (nm_r (nI_1 u) H)⟩
  · exact br_f h ⟨pk_in (b * 64 + v * 8 + u) 256 hi (bj_ix2 b 64 v 8 u), nm_r (bj_up (v' := r) (b * 64 + v * 8 + u) (bj_ix2 b 64 v 8 u) e) (nm_r (nI_1 u) H)⟩
theorem bj_q55 {post : St2 → Prop} {J7 J15 : _} {b v u d : Nat} {x4 s r : Int32} (e4 : x4 = nI d) (hi : b * 64 + v * 8 + u < 256) (h0 : 0 < d) (hd : d < 2 ^ 21) (hD : bj_D s d r)
    (H : J15 (nI (u + 1)) a1 a2 a3 a4 a5 a6 a7 a8 a9 a10 a11 a12 (upd a13 (b * 64 + v * 8 + u) r) a14 a15 a16 a17) :
    (0 ≤ s → wX_quantise_55 post J7 J15 (nI b) (nI v) (nI u) x4 s s f1 f2 f3 f4 f5 f6 f7 f8 f9 f10 f11 a1 a2 a3 a4 a5 a6 a7 a8 a9 a10 a11 a12 a13 a14 a15 a16 a17) ∧ (¬ 0 ≤ s → wX_quantise_55 post J7 J15 (nI b) (nI v) (nI u) x4 s (-s) f1 f2 f3 f4 f5 f6 f7 f8 f9 f10 f11 a1 a2 a3 a4 a5 a6 a7 a8 a9 a10 a11 a12 a13 a14 a15 a16 a17) := by
  subst e4
  have e2 : (2 : Int32) * nI d = nI (2 * d) := pk_mul 2 d
  have hne : ¬ (2 : Int32) * nI d = 0 := by
    rw [e2]
    exact nI_ne0 (by omega) (by omega)
  have hv : ∀ m, m < 2 ^ 26 → (2 * nI m + nI d) / (2 * nI d) = nI ((2 * m + d) / (2 * d)) := by
    intro m hm
    rw [e2, show (2 : Int32) * nI m = nI (2 * m) from pk_mul 2 m, nI_add]
    exact pk_div (by omega) (by omega) (by omega)
  rcases hD with ⟨m, hm, e1, er⟩ | ⟨m, hm0, hm, e1, er⟩
  · subst e1 er
    exact br_t (nI_pos' (by omega)) (pk_le d 0 (fun z => absurd z (by omega)) (fun _ => ⟨hne, bj_q78 hi (Or.inl ⟨nI_pos' (by omega), hv m hm⟩) H⟩))
  · subst e1 er
    have hn := bj_nle hm0 (show m < 2 ^ 31 by omega)
    refine br_f hn (pk_le d 0 (fun z => absurd z (by omega)) (fun _ => ⟨hne, bj_q78 hi (Or.inr ⟨hn, ?_⟩) H⟩))
    rw [show - -nI m = nI m by grind, hv m hm]
theorem bj_q15 {post : St2 → Prop} {J : _} {b v q : Nat} {c lv : Int32} (hb : b < 4) (hv : v < 8) (q1 : 1 ≤ q) (q8 : q ≤ 8) (hs : ∀ k, k < 64 → a16 k = bj_S c k) (hD : bj_D (262144 * c) (16384 * q) lv)
    (h0 : ∀ j, j < b * 64 + v * 8 → a13 j = bj_L lv j)
    (H : ∀ s, (∀ j, j < b * 64 + (v + 1) * 8 → s j = bj_L lv j) → J (nI (v + 1)) a1 a2 a3 a4 a5 a6 a7 a8 a9 a10 a11 a12 s a14 a15 a16 a17) : ∃ n, wX_quantise_15 post J (nI b) (nI v) f1 f2 (nI q) f4 f5 f6 f7 f8 f9 f10 f11 n 0 a1 a2 a3 a4 a5 a6 a7 a8 a9 a10 a11 a12 a13 a14 a15 a16 a17 := by
  refine pk_loop (fun n i s => wX_quantise_15 post J (nI b) (nI v) f1 f2 (nI q) f4 f5 f6 f7 f8 f9 f10 f11 n (nI i) a1 a2 a3 a4 a5 a6 a7 a8 a9 a10 a11 a12 s a14 a15 a16 a17) (fun i s => ∀ j, j < b * 64 + v * 8 + i → s j = bj_L lv j) 8 0 a13 (by omega) h0
    (fun n s h => pk_le 8 8 (fun _ => nm_r (nI_1 v) (H s (fun k hk => h k (by omega)))) (fun z => absurd z (by omega))) ?_
  intro n i s hi h hw
  have e4 : (8192 * nI q) * ((2 + nI i) + nI v) = nI (8192 * q * (2 + i + v)) := by
    rw [show (8192 : Int32) * nI q = nI (8192 * q) from pk_mul 8192 q, show (2 : Int32) + nI i = nI (2 + i) from nI_add 2 i, nI_add, pk_mul]
  have hd : 8192 * q * (2 + i + v) < 2 ^ 21 := Nat.lt_of_le_of_lt (Nat.mul_le_mul (show 8192 * q ≤ 65536 by omega) (show 2 + i + v ≤ 16 by omega)) (by decide)
  have hd0 : 0 < 8192 * q * (2 + i + v) := Nat.mul_pos (by omega) (by omega)
  have hDD : bj_D (bj_S c (v * 8 + i)) (8192 * q * (2 + i + v)) (bj_L lv (b * 64 + v * 8 + i)) := by
    by_cases e : v * 8 + i = 0
    · have ev : v = 0 := by omega
      have ei : i = 0 := by omega
      subst ev ei
      rw [bj_S, if_pos rfl, bj_L, if_pos (by omega), show 8192 * q * (2 + 0 + 0) = 16384 * q by omega]
      exact hD
    · rw [bj_S, if_neg e, bj_L, if_neg (by omega)]
      exact bj_D0 hd0
  exact pk_le 8 i (fun z => absurd z (by omega)) (fun _ => ⟨pk_in (v * 8 + i) 64 (by omega) (bj_ix v 8 i), nm_r (bj_rd (v * 8 + i) (bj_ix v 8 i) (hs _ (by omega))) (bj_q55 e4 (by omega) hd0 hd hDD (hw _ (bj_ug (fun k hk hn => h k (by omega)) (fun _ => rfl))))⟩)
theorem bj_q7 {post : St2 → Prop} {b q : Nat} {c lv : Int32} (hb : b < 4) (q1 : 1 ≤ q) (q8 : q ≤ 8) (hs : ∀ k, k < 64 → a16 k = bj_S c k) (hD : bj_D (262144 * c) (16384 * q) lv)
    (h0 : ∀ j, j < b * 64 → a13 j = bj_L lv j)
    (H : ∀ s, (∀ j, j < (b + 1) * 64 → s j = bj_L lv j) → post (f1, f2, nI q, f4, f5, f6, f7, f8, f9, f10, f11, a1, a2, a3, a4, a5, a6, a7, a8, a9, a10, a11, a12, s, a14, a15, a16, a17)) : ∃ n, wX_quantise_7 post (nI b) f1 f2 (nI q) f4 f5 f6 f7 f8 f9 f10 f11 n 0 a1 a2 a3 a4 a5 a6 a7 a8 a9 a10 a11 a12 a13 a14 a15 a16 a17 :=
  pk_loop (fun n i s => wX_quantise_7 post (nI b) f1 f2 (nI q) f4 f5 f6 f7 f8 f9 f10 f11 n (nI i) a1 a2 a3 a4 a5 a6 a7 a8 a9 a10 a11 a12 s a14 a15 a16 a17) (fun i s => ∀ j, j < b * 64 + i * 8 → s j = bj_L lv j) 8 0 a13 (by omega) (fun j hj => h0 j (by omega))
    (fun n s h => pk_le 8 8 (fun _ => H s (fun k hk => h k (by omega))) (fun z => absurd z (by omega)))
    (fun n i s hi h hw => pk_le 8 i (fun z => absurd z (by omega)) (fun _ => bj_q15 hb hi q1 q8 hs hD h (fun s' h' => hw s' h')))
theorem bj_quantise {post : St2 → Prop} {b q : Nat} {g c lv : Int32} (hb : b < 4) (q1 : 1 ≤ q) (q8 : q ≤ 8) (hp : bj_P g a1) (hq : bj_Q a2) (hc : g - 128 = c) (hD : bj_D (262144 * c) (16384 * q) lv)
    (h0 : ∀ j, j < b * 64 → a13 j = bj_L lv j)
    (H : ∀ s13 s15 s16, (∀ j, j < (b + 1) * 64 → s13 j = bj_L lv j) → post (f1, f2, nI q, f4, f5, f6, f7, f8, f9, f10, f11, a1, a2, a3, a4, a5, a6, a7, a8, a9, a10, a11, a12, s13, a14, s15, s16, a17)) : wpX_quantise post (f1, f2, nI q, f4, f5, f6, f7, f8, f9, f10, f11, a1, a2, a3, a4, a5, a6, a7, a8, a9, a10, a11, a12, a13, a14, a15, a16, a17) (nI b) := by
  unfold wpX_quantise
  dsimp only
  exact bj_tr hb hp hq hc (fun s15 s16 h16 => bj_q7 hb q1 q8 h16 hD h0 (fun s h => H s s15 s16 h))
end
end
section
/-! sizeOf; symbol, writeBlock, writeAll while counting -/
section
variable {f1 f2 f3 f4 f5 f6 f7 f8 f9 f10 f11 : Int32} {a1 a2 a3 a4 a5 a6 a7 a8 a9 a10 a11 a12 a13 a14 a15 a16 : Nat → Int32} {a17 : Nat → Int64}
/-- n digits hold v -/
def bj_Z (v : Int32) (n : Nat) : Prop := n ≤ 13 ∧ ∃ m : Nat, m < 2 ^ n ∧ (∀ i, i < n → 2 ^ i ≤ m) ∧ (v = nI m ∨ (0 < m ∧ v = -nI m))
theorem bj_Z0 : bj_Z 0 0 := ⟨by omega, 0, by decide, fun i h => absurd h (by omega), Or.inl rfl⟩
theorem bj_s16 {post : Int32 → Prop} {m n : Nat} (hn : n ≤ 13) (h1 : m < 2 ^ n) (h2 : ∀ i, i < n → 2 ^ i ≤ m) (hm : m < 2 ^ 31) (H : post (nI n)) : ∃ k, wX_sizeOf_16 post (nI m) f1 f2 f3 f4 f5 f6 f7 f8 f9 f10 f11 a1 a2 a3 a4 a5 a6 a7 a8 a9 a10 a11 a12 a13 a14 a15 a16 a17 k 0 0 := by
  refine pk_loop (σ := Unit) (fun k i _ => wX_sizeOf_16 post (nI m) f1 f2 f3 f4 f5 f6 f7 f8 f9 f10 f11 a1 a2 a3 a4 a5 a6 a7 a8 a9 a10 a11 a12 a13 a14 a15 a16 a17 k (nI i) (nI i)) (fun _ _ => True) n 0 () (by omega) trivial (fun k _ _ => ?_) (fun k i _ hi _ hw => ?_)
  · exact pk_le 14 n (fun z => absurd z (by omega)) (fun _ => pk_eq (m / 2 ^ n) 0 (fun _ => H) (fun z => absurd (Nat.div_eq_of_lt h1) z) (pk_shrN hm _ n (bj_sl n (by omega))) rfl (Nat.lt_of_le_of_lt (Nat.div_le_self _ _) hm) (by decide))
  · exact pk_le 14 i (fun z => absurd z (by omega)) (fun _ => pk_eq (m / 2 ^ i) 0 (fun z => absurd z (Nat.ne_of_gt (Nat.div_pos (h2 i hi) (Nat.two_pow_pos i)))) (fun _ => nm_r (nI_1 i) (nm_r (nI_1 i) (hw () trivial))) (pk_shrN hm _ i (bj_sl i (by omega))) rfl (Nat.lt_of_le_of_lt (Nat.div_le_self _ _) hm) (by decide))
theorem bj_size {post : Int32 → Prop} {v : Int32} {n : Nat} (hz : bj_Z v n) (H : post (nI n)) : wpX_sizeOf post (f1, f2, f3, f4, f5, f6, f7, f8, f9, f10, f11, a1, a2, a3, a4, a5, a6, a7, a8, a9, a10, a11, a12, a13, a14, a15, a16, a17) v := by
  obtain ⟨hn, m, h1, h2, e⟩ := hz
  have hm : m < 2 ^ 31 := Nat.lt_of_lt_of_le h1 (Nat.pow_le_pow_right (by decide) (by omega))
  rcases e with e | ⟨h0, e⟩
  · subst e
    exact br_t (nI_pos' hm) (bj_s16 hn h1 h2 hm H)
  · subst e
    exact br_f (bj_nle h0 hm) (nm_r (show - -nI m = nI m by grind) (bj_s16 hn h1 h2 hm H))
theorem bj_symC {post : St2 → Prop} {k : Nat} {x p1 p2 : Int32} (ex : x = nI k) (hk : k < 544) (H : post (f1, f2, f3, f4, f5, 1, f7, f8, f9, f10, f11, a1, a2, a3, a4, a5, upd a6 k (a6 k + 1), a7, a8, a9, a10, a11, a12, a13, a14, a15, a16, a17)) : wpX_symbol post (f1, f2, f3, f4, f5, 1, f7, f8, f9, f10, f11, a1, a2, a3, a4, a5, a6, a7, a8, a9, a10, a11, a12, a13, a14, a15, a16, a17) x p1 p2 := by
  subst ex
  exact br_f (by decide) ⟨pk_in k 544 hk, pk_in k 544 hk, nm_r (bj_up (v' := a6 k + 1) k rfl (by rw [nI_clamp (by omega)])) H⟩
theorem bj_wb51 {post : St2 → Prop} {b : Nat} {lv : Int32} (hb : b < 4) (ho : bj_O 64 a3) (hl : ∀ j, j < 256 → a13 j = bj_L lv j)
    (H : ∀ p : St2 → Prop, (∀ u, post u → p u) → wpX_symbol p (f1, f2, f3, f4, f5, f6, f7, f8, f9, f10, f11, a1, a2, a3, a4, a5, a6, a7, a8, a9, a10, a11, a12, a13, a14, a15, a16, a17) 0 0 0) : ∃ n, wX_writeBlock_51 post (nI b) n 0 1 f1 f2 f3 f4 f5 f6 f7 f8 f9 f10 f11 a1 a2 a3 a4 a5 a6 a7 a8 a9 a10 a11 a12 a13 a14 a15 a16 a17 := by
  refine pk_loop (σ := Unit) (fun n i _ => wX_writeBlock_51 post (nI b) n (nI i) (nI (i + 1)) f1 f2 f3 f4 f5 f6 f7 f8 f9 f10 f11 a1 a2 a3 a4 a5 a6 a7 a8 a9 a10 a11 a12 a13 a14 a15 a16 a17) (fun _ _ => True) 63 0 () (by omega) trivial (fun n _ _ => ?_) (fun n i _ hi _ hw => ?_)
  · exact pk_le 64 64 (fun _ => pk_le 63 0 (fun z => absurd z (by omega)) (fun _ => H _ (fun (f1, f2, f3, f4, f5, f6, f7, f8, f9, f10, f11, a1, a2, a3, a4, a5, a6, a7, a8, a9, a10, a11, a12, a13, a14, a15, a16, a17) h => h))) (fun z => absurd z (by omega))
  · obtain ⟨t, t1, t2, et⟩ := ho (i + 1) (by omega) (by omega)
    have e3 : a3 (nI (i + 1)).toNatClampNeg = nI t := bj_rd (i + 1) rfl et
    have ex : nI b * 64 + a3 (nI (i + 1)).toNatClampNeg = nI (b * 64 + t) := by
      rw [e3]
      exact bj_ix b 64 t
    exact pk_le 64 (i + 1) (fun z => absurd z (by omega)) (fun _ => ⟨pk_in (i + 1) 64 (by omega), pk_in (b * 64 + t) 256 (by omega) ex, nm_r (bj_rd (b * 64 + t) ex ((hl _ (by omega)).trans (by rw [bj_L, if_neg (by omega)]))) (br_t rfl (nm_r (nI_1 i) (nm_r (nI_1 (i + 1)) (hw () trivial))))⟩)
theorem bj_wb {post : St2 → Prop} {b n : Nat} {lv ch : Int32} (hb : b < 4) (hl : ∀ j, j < 256 → a13 j = bj_L lv j) (hch : lv - f7 = ch) (hz : bj_Z ch n)
    (H : ∀ p : St2 → Prop, (∀ f1 f2 f3 f4 f5 f6 f7 f8 f9 f10 f11 a1 a2 a3 a4 a5 a6 a7 a8 a9 a10 a11 a12 a13 a14 a15 a16 a17, (∃ m, wX_writeBlock_51 post (nI b) m 0 1 f1 f2 f3 f4 f5 f6 f7 f8 f9 f10 f11 a1 a2 a3 a4 a5 a6 a7 a8 a9 a10 a11 a12 a13 a14 a15 a16 a17) → p (f1, f2, f3, f4, f5, f6, f7, f8, f9, f10, f11, a1, a2, a3, a4, a5, a6, a7, a8, a9, a10, a11, a12, a13, a14, a15, a16, a17)) → wpX_symbol p (f1, f2, f3, f4, f5, f6, lv, f8, f9, f10, f11, a1, a2, a3, a4, a5, a6, a7, a8, a9, a10, a11, a12, a13, a14, a15, a16, a17) (nI (256 + n)) ch (nI n)) : wpX_writeBlock post (f1, f2, f3, f4, f5, f6, f7, f8, f9, f10, f11, a1, a2, a3, a4, a5, a6, a7, a8, a9, a10, a11, a12, a13, a14, a15, a16, a17) (nI b) := by
  have e64 : nI b * 64 = nI (b * 64) := pk_mul b 64
  have el : a13 (nI b * 64).toNatClampNeg = lv := bj_rd (b * 64) e64 ((hl _ (by omega)).trans (by rw [bj_L, if_pos (by omega)]))
  have e256 : (256 : Int32) + nI n = nI (256 + n) := nI_add 256 n
  unfold wpX_writeBlock
  dsimp only
  refine ⟨pk_in (b * 64) 256 (by omega) e64, nm_r (show a13 (nI b * 64).toNatClampNeg - f7 = ch by rw [el, hch]) ⟨pk_in (b * 64) 256 (by omega) e64, nm_r el (bj_size hz ?_)⟩⟩
  rw [e256]
  refine H _ ?_
  intro f1 f2 f3 f4 f5 f6 f7 f8 f9 f10 f11 a1 a2 a3 a4 a5 a6 a7 a8 a9 a10 a11 a12 a13 a14 a15 a16 a17 h
  exact h
theorem bj_wbC {post : St2 → Prop} {b n : Nat} {lv ch : Int32} (hb : b < 4) (ho : bj_O 64 a3) (hl : ∀ j, j < 256 → a13 j = bj_L lv j) (hch : lv - f7 = ch) (hz : bj_Z ch n)
    (H : post (f1, f2, f3, f4, f5, 1, lv, f8, f9, f10, f11, a1, a2, a3, a4, a5, upd (upd a6 (256 + n) (a6 (256 + n) + 1)) 0 (upd a6 (256 + n) (a6 (256 + n) + 1) 0 + 1), a7, a8, a9, a10, a11, a12, a13, a14, a15, a16, a17)) : wpX_writeBlock post (f1, f2, f3, f4, f5, 1, f7, f8, f9, f10, f11, a1, a2, a3, a4, a5, a6, a7, a8, a9, a10, a11, a12, a13, a14, a15, a16, a17) (nI b) :=
  bj_wb hb hl hch hz (fun p hp => bj_symC rfl (by have := hz.1; omega) (hp _ _ _ _ _ _ _ _ _ _ _ _ _ _ _ _ _ _ _ _ _ _ _ _ _ _ _ _ (bj_wb51 hb ho hl (fun p' hp' => bj_symC (k := 0) rfl (by omega) (hp' _ H)))))
/-- by block: what is predicted, the change, its size; the weights -/
def bj_pd (lv : Int32) : Nat → Int32
  | 0 => 0
  | _ + 1 => lv
def bj_ch (lv : Int32) : Nat → Int32
  | 0 => lv
  | _ + 1 => 0
def bj_ns (n : Nat) : Nat → Nat
  | 0 => n
  | _ + 1 => 0
theorem bj_chE (lv : Int32) : ∀ i, lv - bj_pd lv i = bj_ch lv i
  | 0 => by show lv - 0 = lv; grind
  | _ + 1 => by show lv - lv = 0; grind
theorem bj_chZ {lv : Int32} {n : Nat} (hz : bj_Z lv n) : ∀ i, bj_Z (bj_ch lv i) (bj_ns n i)
  | 0 => hz
  | _ + 1 => bj_Z0
def bj_wg (n : Nat) : Nat → Nat → Nat
  | 0, _ => 0
  | i + 1, j => bj_wg n i j + (if j = 256 + bj_ns n i then 1 else 0) + (if j = 0 then 1 else 0)
theorem bj_wgS (n i j : Nat) : bj_wg n (i + 1) j = bj_wg n i j + (if j = 256 + bj_ns n i then 1 else 0) + (if j = 0 then 1 else 0) := rfl
theorem bj_wgU {n i : Nat} {s : Nat → Int32} (h : ∀ j, j < 272 → s j = nI (bj_wg n i j)) (hn : bj_ns n i ≤ 13) :
    ∀ j, j < 272 → upd (upd s (256 + bj_ns n i) (s (256 + bj_ns n i) + 1)) 0 (upd s (256 + bj_ns n i) (s (256 + bj_ns n i) + 1) 0 + 1) j = nI (bj_wg n (i + 1) j) := by
  intro j hj
  rw [bj_wgS]
  by_cases e0 : j = 0
  · subst e0
    rw [pk_us, pk_un (by omega), h 0 (by omega), nI_1, if_neg (by omega), if_pos rfl]
  · rw [pk_un e0, if_neg e0]
    by_cases e : j = 256 + bj_ns n i
    · rw [if_pos e, e, pk_us, h _ (by omega), nI_1]
    · rw [if_neg e, pk_un e, h j hj, Nat.add_zero]
theorem bj_waC {post : St2 → Prop} {n : Nat} {lv : Int32} (ho : bj_O 64 a3) (hl : ∀ j, j < 256 → a13 j = bj_L lv j) (hz : bj_Z lv n) (h0 : ∀ j, j < 272 → a6 j = 0)
    (H : ∀ s, (∀ j, j < 272 → s j = nI (bj_wg n 4 j)) → post (f1, f2, f3, 4, f5, 1, lv, f8, f9, f10, f11, a1, a2, a3, a4, a5, s, a7, a8, a9, a10, a11, a12, a13, a14, a15, a16, a17)) : wpX_writeAll post (f1, f2, f3, 4, f5, f6, f7, f8, f9, f10, f11, a1, a2, a3, a4, a5, a6, a7, a8, a9, a10, a11, a12, a13, a14, a15, a16, a17) 1 := by
  refine ⟨rfl, rfl, ?_⟩
  refine pk_loop (fun k i s => wX_writeAll_17 post k 0 (nI i) (nI i) f1 f2 f3 4 f5 1 (bj_pd lv i) f8 f9 f10 f11 a1 a2 a3 a4 a5 s a7 a8 a9 a10 a11 a12 a13 a14 a15 a16 a17) (fun i s => ∀ j, j < 272 → s j = nI (bj_wg n i j)) 4 0 a6 (by omega) h0
    (fun k s h => pk_le 4 4 (fun _ => br_f (by decide) (H s h)) (fun z => absurd z (by omega))) ?_
  intro k i s hi h hw
  exact pk_le 4 i (fun z => absurd z (by omega)) (fun _ => pk_eq i 4 (fun z => absurd z (by omega)) (fun _ => bj_wbC hi ho hl (bj_chE lv i) (bj_chZ hz i) (nm_r (nI_1 i) (nm_r (nI_1 i) (hw _ (bj_wgU h (bj_chZ hz i).1))))))
end
end
section
/-! lightest, makeLengths -/
section
variable {f1 f2 f3 f4 f5 f6 f7 f8 f9 f10 f11 : Int32} {a1 a2 a3 a4 a5 a6 a7 a8 a9 a10 a11 a12 a13 a14 a15 a16 : Nat → Int32} {a17 : Nat → Int64}
def bj_E (to : Nat) (w ab : Nat → Int32) (k : Nat) : Prop := (k < to ∨ 272 ≤ k) ∧ ¬ w k ≤ 0 ∧ ¬ 0 ≤ ab k
def bj_LI (fr to : Nat) (w ab : Nat → Int32) (i : Nat) (x : Int32) : Prop :=
  (x = -1 ∧ ∀ k, fr ≤ k → k < i → ¬ bj_E to w ab k) ∨ (∃ m : Nat, fr ≤ m ∧ m < i ∧ x = nI m ∧ bj_E to w ab m ∧ ∀ k, fr ≤ k → k < i → bj_E to w ab k → w m ≤ w k)
theorem bj_LIk {fr to i : Nat} {w ab : Nat → Int32} {x : Int32} (h : bj_LI fr to w ab i x) (hn : ¬ bj_E to w ab i) : bj_LI fr to w ab (i + 1) x := by
  have tr : ∀ k, k < i + 1 → bj_E to w ab k → k < i := by
    intro k hk e
    by_cases ek : k = i
    · subst ek
      exact absurd e hn
    · omega
  rcases h with ⟨e, h⟩ | ⟨m, m1, m2, e, mE, mL⟩
  · exact Or.inl ⟨e, fun k k1 k2 kE => h k k1 (tr k k2 kE) kE⟩
  · exact Or.inr ⟨m, m1, by omega, e, mE, fun k k1 k2 kE => mL k k1 (tr k k2 kE) kE⟩
theorem bj_l30 {post : Int32 → Prop} {J : Int32 → Int32 → Prop} {x2 x3 x4 x5 z0 : Int32} {fr to i : Nat} (hi : i < 544) (hfr : fr ≤ i) (hz : (z0 = 0 ∧ ¬ (i < to ∨ 272 ≤ i)) ∨ (¬ z0 = 0 ∧ (i < to ∨ 272 ≤ i)))
    (hI : bj_LI fr to a6 a7 i x5) (H : ∀ x, bj_LI fr to a6 a7 (i + 1) x → J x (nI (i + 1))) : wX_lightest_30 post J x2 x3 x4 x5 (nI i) z0 f1 f2 f3 f4 f5 f6 f7 f8 f9 f10 f11 a1 a2 a3 a4 a5 a6 a7 a8 a9 a10 a11 a12 a13 a14 a15 a16 a17 := by
  have ec : (nI i).toNatClampNeg = i := nI_clamp (by omega)
  have keep : ¬ bj_E to a6 a7 i → J x5 (nI (i + 1)) := fun hn => H _ (bj_LIk hI hn)
  rcases hz with ⟨z, hn⟩ | ⟨z, hy⟩
  · exact br_t z (nm_r (nI_1 i) (keep (fun e => hn e.1)))
  · refine br_f z ⟨pk_in i 544 hi, br_c (fun h => nm_r (nI_1 i) (keep (fun e => e.2.1 ?_))) (fun h6 => ⟨pk_in i 544 hi, br_c (fun h => nm_r (nI_1 i) (keep (fun e => e.2.2 ?_))) (fun h7 => ?_)⟩)⟩
    · rw [ec] at h
      exact h
    · rw [ec] at h
      exact h
    · rw [ec] at h6 h7
      have hE : bj_E to a6 a7 i := ⟨hy, h6, h7⟩
      rcases hI with ⟨e, hno⟩ | ⟨m, m1, m2, e, mE, mL⟩
      · subst e
        refine br_t (by decide) (nm_r (nI_1 i) (H _ (Or.inr ⟨i, hfr, by omega, rfl, hE, fun k k1 k2 kE => ?_⟩)))
        by_cases ek : k = i
        · subst ek
          exact Int32.le_refl _
        · exact absurd kE (hno k k1 (by omega))
      · subst e
        have ecm : (nI m).toNatClampNeg = m := nI_clamp (by omega)
        refine br_f (nI_pos (by omega)) ⟨pk_in i 544 hi, pk_in m 544 (by omega), br_c (fun h => nm_r (nI_1 i) (H _ (Or.inr ⟨m, m1, by omega, rfl, mE, fun k k1 k2 kE => ?_⟩))) (fun h => nm_r (nI_1 i) (H _ (Or.inr ⟨i, hfr, by omega, rfl, hE, fun k k1 k2 kE => ?_⟩)))⟩
        · rw [ec, ecm] at h
          by_cases ek : k = i
          · subst ek
            exact h
          · exact mL k k1 (by omega) kE
        · rw [ec, ecm] at h
          have hlt : a6 i ≤ a6 m := Int32.le_of_lt (Int32.not_le.mp h)
          by_cases ek : k = i
          · subst ek
            exact Int32.le_refl _
          · exact Int32.le_trans hlt (mL k k1 (by omega) kE)
theorem bj_light {post : Int32 → Prop} {fr to nx : Nat} (hf : fr ≤ nx) (hnx : nx ≤ 544) (hto : to ≤ 272) (H : ∀ x, bj_LI fr to a6 a7 nx x → post x) : wpX_lightest post (f1, f2, f3, f4, f5, f6, f7, f8, f9, f10, f11, a1, a2, a3, a4, a5, a6, a7, a8, a9, a10, a11, a12, a13, a14, a15, a16, a17) (nI fr) (nI to) 272 (nI nx) :=
  pk_loop (fun n i x => wX_lightest_6 post (nI to) 272 (nI nx) f1 f2 f3 f4 f5 f6 f7 f8 f9 f10 f11 a1 a2 a3 a4 a5 a6 a7 a8 a9 a10 a11 a12 a13 a14 a15 a16 a17 n x (nI i)) (fun i x => fr ≤ i ∧ bj_LI fr to a6 a7 i x) nx fr (-1) hf ⟨Nat.le_refl _, Or.inl ⟨rfl, fun k k1 k2 => absurd k2 (by omega)⟩⟩
    (fun n x h => pk_le nx nx (fun _ => H x h.2) (fun z => absurd z (by omega)))
    (fun n i x hi h hw => pk_le nx i (fun z => absurd z (by omega)) (fun _ => pk_lt i to
      (fun h1 => bj_l30 (z0 := 1) (by omega) h.1 (Or.inr ⟨by decide, Or.inl h1⟩) h.2 (fun x' h' => hw x' ⟨by omega, h'⟩))
      (fun h1 => pk_lt i 272
        (fun h2 => bj_l30 (z0 := 0) (by omega) h.1 (Or.inl ⟨rfl, by omega⟩) h.2 (fun x' h' => hw x' ⟨by omega, h'⟩))
        (fun h2 => bj_l30 (z0 := 1) (by omega) h.1 (Or.inr ⟨by decide, Or.inr h2⟩) h.2 (fun x' h' => hw x' ⟨by omega, h'⟩)))))
theorem bj_m7 {post : St2 → Prop} {x1 x2 : Int32} (H : ∀ s6 s7, (∀ k, k < 272 → s6 k = a6 k) → (∀ k, (272 ≤ k ∧ k < 544) → s6 k = 0) → (∀ k, k < 544 → s7 k = -1) → ∃ n, wX_makeLengths_51 post x1 x2 f1 f2 f3 f4 f5 f6 f7 f8 f9 f10 f11 n 272 1 0 a1 a2 a3 a4 a5 s6 s7 a8 a9 a10 a11 a12 a13 a14 a15 a16 a17) :
    ∃ n, wX_makeLengths_7 post x1 x2 272 f1 f2 f3 f4 f5 f6 f7 f8 f9 f10 f11 n 0 a1 a2 a3 a4 a5 a6 a7 a8 a9 a10 a11 a12 a13 a14 a15 a16 a17 :=
  pk_loop (fun n i (s : (Nat → Int32) × (Nat → Int32)) => wX_makeLengths_7 post x1 x2 272 f1 f2 f3 f4 f5 f6 f7 f8 f9 f10 f11 n (nI i) a1 a2 a3 a4 a5 s.1 s.2 a8 a9 a10 a11 a12 a13 a14 a15 a16 a17) (fun i s => (∀ k, k < 272 → s.1 k = a6 k) ∧ (∀ k, (272 ≤ k ∧ k < i) → s.1 k = 0) ∧ (∀ k, k < i → s.2 k = -1)) 544 0 (a6, a7) (by omega)
    ⟨fun k _ => rfl, fun k hk => absurd hk.2 (by omega), fun k hk => absurd hk (by omega)⟩
    (fun n s h => pk_le 544 544 (fun _ => H s.1 s.2 h.1 h.2.1 h.2.2) (fun z => absurd z (by omega)))
    (fun n i s hi h hw => pk_le 544 i (fun z => absurd z (by omega)) (fun _ => ⟨pk_in i 544 hi, nm_r (bj_up (v' := -1) i rfl rfl) (pk_lt i 272
      (fun h1 => nm_r (nI_1 i) (hw (s.1, upd s.2 i (-1)) ⟨h.1, fun k hk => absurd hk.1 (by omega), bj_ug (fun k hk hn => h.2.2 k (by omega)) (fun _ => rfl)⟩))
      (fun h1 => ⟨pk_in i 544 hi, nm_r (bj_up (v' := 0) i rfl rfl) (nm_r (nI_1 i) (hw (upd s.1 i 0, upd s.2 i (-1)) ⟨bj_ug (fun k hk hn => h.1 k hk) (fun hk => absurd hk (by omega)), bj_ug (fun k hk hn => h.2.1 k (by omega)) (fun _ => rfl), bj_ug (fun k hk hn => h.2.2 k (by omega)) (fun _ => rfl)⟩))⟩))⟩))
theorem bj_dp {post : Int32 → Prop} {k : Nat} (hk : k < 544) (H0 : a6 k = 0 → post 0) (H1 : ¬ a6 k = 0 → post 1) (hab : ¬ a6 k = 0 → (a7 k = -1 ∨ ∃ p : Nat, p < 544 ∧ a7 k = nI p ∧ a7 p = -1)) : wpX_depthOf post (f1, f2, f3, f4, f5, f6, f7, f8, f9, f10, f11, a1, a2, a3, a4, a5, a6, a7, a8, a9, a10, a11, a12, a13, a14, a15, a16, a17) (nI k) := by
  have ec : (nI k).toNatClampNeg = k := nI_clamp (by omega)
  refine ⟨pk_in k 544 hk, br_c (fun h => H0 ?_) (fun h => ⟨3, ?_⟩)⟩
  · rw [ec] at h
    exact h
  · rw [ec] at h
    rcases hab h with e | ⟨p, hp, e, ep⟩
    · exact br_f (by decide) ⟨pk_in k 544 hk, br_t (by rw [ec, e]; decide) (br_t rfl (H1 h))⟩
    · exact br_f (by decide) ⟨pk_in k 544 hk, br_f (by rw [ec, e]; exact nI_pos (by omega)) ⟨pk_in k 544 hk, nm_r (bj_rd k rfl e) (nm_r (show (0 : Int32) + 1 = 1 from rfl) (nm_r (show (0 : Int32) + 1 = 1 from rfl) (br_f (by decide) ⟨pk_in p 544 hp, br_t (by rw [bj_rd p rfl ep]; decide) (br_f (by decide) (H1 h))⟩)))⟩⟩
theorem bj_m180 {post : St2 → Prop} {fr to : Nat} (hft : fr ≤ to) (hto : to ≤ 272) (hab : ∀ k, fr ≤ k → k < to → ¬ a6 k = 0 → (a7 k = -1 ∨ ∃ p : Nat, p < 544 ∧ a7 k = nI p ∧ a7 p = -1))
    (H : ∀ s, (∀ k, k < fr → s k = a4 k) → (∀ k, (fr ≤ k ∧ k < to) → s k = if a6 k = 0 then 0 else 1) → post (f1, f2, f3, f4, f5, f6, f7, f8, f9, f10, f11, a1, a2, a3, s, a5, a6, a7, a8, a9, a10, a11, a12, a13, a14, a15, a16, a17)) : ∃ n, wX_makeLengths_180 post (nI to) f1 f2 f3 f4 f5 f6 f7 f8 f9 f10 f11 n (nI fr) a1 a2 a3 a4 a5 a6 a7 a8 a9 a10 a11 a12 a13 a14 a15 a16 a17 := by
  refine pk_loop (fun n i s => wX_makeLengths_180 post (nI to) f1 f2 f3 f4 f5 f6 f7 f8 f9 f10 f11 n (nI i) a1 a2 a3 s a5 a6 a7 a8 a9 a10 a11 a12 a13 a14 a15 a16 a17) (fun i s => fr ≤ i ∧ (∀ k, k < fr → s k = a4 k) ∧ ∀ k, (fr ≤ k ∧ k < i) → s k = if a6 k = 0 then 0 else 1) to fr a4 hft ⟨Nat.le_refl _, fun k _ => rfl, fun k hk => absurd hk.2 (by omega)⟩
    (fun n s h => pk_le to to (fun _ => H s h.2.1 h.2.2) (fun z => absurd z (by omega))) ?_
  intro n i s hi h hw
  obtain ⟨h1, h2, h3⟩ := h
  have hw' : ∀ r : Int32, r = (if a6 i = 0 then 0 else 1) → wX_makeLengths_180 post (nI to) f1 f2 f3 f4 f5 f6 f7 f8 f9 f10 f11 n (nI (i + 1)) a1 a2 a3 (upd s i r) a5 a6 a7 a8 a9 a10 a11 a12 a13 a14 a15 a16 a17 :=
    fun r hr => hw _ ⟨by omega, bj_ug (fun k hk hn => h2 k hk) (fun hk => absurd hk (by omega)), bj_ug (fun k hk hn => h3 k (by omega)) (fun _ => hr)⟩
  exact pk_le to i (fun z => absurd z (by omega)) (fun _ => bj_dp (by omega)
    (fun e => ⟨pk_in i 272 (by omega), nm_r (bj_up (v' := 0) i rfl rfl) (nm_r (nI_1 i) (hw' 0 (by rw [if_pos e])))⟩)
    (fun e => ⟨pk_in i 272 (by omega), nm_r (bj_up (v' := 1) i rfl rfl) (nm_r (nI_1 i) (hw' 1 (by rw [if_neg e])))⟩) (hab i h1 hi))
/-- the last round: one node alone has none above it -/
theorem bj_mOne {post : St2 → Prop} {fr to nx s r n : Nat} (hf : fr ≤ s) (hs : s < nx) (hnx : nx < 544) (hto : to ≤ 272) (hr : r < 272) (hE : ∀ k, fr ≤ k → k < nx → (bj_E to a6 a7 k ↔ k = s)) (h7 : a7 s = -1)
    (H : ∃ m, wX_makeLengths_180 post (nI to) f1 f2 f3 f4 f5 f6 f7 f8 f9 f10 f11 m (nI fr) a1 a2 a3 a4 a5 a6 a7 a8 a9 a10 a11 a12 a13 a14 a15 a16 a17) : wX_makeLengths_51 post (nI fr) (nI to) f1 f2 f3 f4 f5 f6 f7 f8 f9 f10 f11 (n + 2) (nI nx) 1 (nI r) a1 a2 a3 a4 a5 a6 a7 a8 a9 a10 a11 a12 a13 a14 a15 a16 a17 := by
  have e7 : upd (upd a7 s (nI nx)) s (-1) = a7 := by
    funext j
    by_cases ej : j = s
    · rw [ej, pk_us, h7]
    · rw [pk_un ej, pk_un ej]
  refine pk_le 272 r (fun z => absurd z (by omega)) (fun _ => br_f (by decide) (bj_light (by omega) (by omega) hto (fun x hx => ?_)))
  rcases hx with ⟨_, hno⟩ | ⟨m, m1, m2, e, mE, mL⟩
  · exact absurd ((hE s hf hs).mpr rfl) (hno s hf hs)
  · have em := (hE m m1 m2).mp mE
    subst em
    subst e
    refine br_f (nI_pos (by omega)) ⟨pk_in m 544 (by omega), nm_r (bj_up (v' := nI nx) m rfl rfl) (bj_light (by omega) (by omega) hto (fun x hx => ?_))⟩
    have hx1 : x = -1 := by
      rcases hx with ⟨e, _⟩ | ⟨t, t1, t2, e, tE, tL⟩
      · exact e
      · exfalso
        by_cases et : t = m
        · subst et
          have := tE.2.2
          rw [pk_us] at this
          exact this (nI_pos' (by omega))
        · have t3 := tE.2.2
          rw [pk_un et] at t3
          exact et ((hE t t1 t2).mp ⟨tE.1, tE.2.1, t3⟩)
    subst hx1
    refine br_f (nI_pos (by omega)) (br_t (by decide) (br_t rfl (br_f (nI_pos (by omega)) ⟨pk_in m 544 (by omega), nm_r ((bj_up (v' := -1) m rfl rfl).trans e7) (nm_r (nI_1 r) (br_c (fun _ => H) (fun _ => br_t rfl H)))⟩)))
/-- a round that joins two -/
theorem bj_mTwo {post : St2 → Prop} {fr to nx s t r n : Nat} (hf : fr ≤ s) (hs : s < nx) (hft : fr ≤ t) (ht : t < nx) (hst : s ≠ t) (hnx : nx < 543) (hto : to ≤ 272) (hr : r < 272) (hE : ∀ k, fr ≤ k → k < nx → (bj_E to a6 a7 k ↔ (k = s ∨ k = t))) (hw : ¬ a6 t ≤ a6 s)
    (H : wX_makeLengths_51 post (nI fr) (nI to) f1 f2 f3 f4 f5 f6 f7 f8 f9 f10 f11 n (nI (nx + 1)) 1 (nI (r + 1)) a1 a2 a3 a4 a5 (upd a6 nx (a6 s + a6 t)) (upd (upd a7 s (nI nx)) t (nI nx)) a8 a9 a10 a11 a12 a13 a14 a15 a16 a17) : wX_makeLengths_51 post (nI fr) (nI to) f1 f2 f3 f4 f5 f6 f7 f8 f9 f10 f11 (n + 1) (nI nx) 1 (nI r) a1 a2 a3 a4 a5 a6 a7 a8 a9 a10 a11 a12 a13 a14 a15 a16 a17 := by
  refine pk_le 272 r (fun z => absurd z (by omega)) (fun _ => br_f (by decide) (bj_light (by omega) (by omega) hto (fun x hx => ?_)))
  rcases hx with ⟨_, hno⟩ | ⟨m, m1, m2, e, mE, mL⟩
  · exact absurd ((hE s hf hs).mpr (Or.inl rfl)) (hno s hf hs)
  · have em : m = s := by
      rcases (hE m m1 m2).mp mE with h | h
      · exact h
      · rw [h] at mL
        exact absurd (mL s hf hs ((hE s hf hs).mpr (Or.inl rfl))) hw
    subst em
    subst e
    refine br_f (nI_pos (by omega)) ⟨pk_in m 544 (by omega), nm_r (bj_up (v' := nI nx) m rfl rfl) (bj_light (by omega) (by omega) hto (fun x hx => ?_))⟩
    have tE2 : bj_E to a6 (upd a7 m (nI nx)) t := by
      obtain ⟨t1, t2, t3⟩ := (hE t hft ht).mpr (Or.inr rfl)
      exact ⟨t1, t2, by rw [pk_un (Ne.symm hst)]; exact t3⟩
    have hx1 : x = nI t := by
      rcases hx with ⟨_, hno⟩ | ⟨k, k1, k2, e, kE, kL⟩
      · exact absurd tE2 (hno t hft ht)
      · have ek : k ≠ m := by
          intro ek
          subst ek
          have := kE.2.2
          rw [pk_us] at this
          exact this (nI_pos' (by omega))
        have k3 := kE.2.2
        rw [pk_un ek] at k3
        rcases (hE k k1 k2).mp ⟨kE.1, kE.2.1, k3⟩ with h | h
        · exact absurd h ek
        · rw [e, h]
    subst hx1
    refine br_f (nI_pos (by omega)) (br_f (nI_pos (by omega)) (br_f (by decide) ⟨pk_in t 544 (by omega), nm_r (bj_up (v' := nI nx) t rfl rfl) ⟨pk_in m 544 (by omega), pk_in t 544 (by omega), pk_in nx 544 (by omega), nm_r (bj_up (v' := a6 m + a6 t) nx rfl (by rw [nI_clamp (by omega), nI_clamp (by omega)])) (nm_r (nI_1 nx) (nm_r (nI_1 r) H))⟩⟩))
theorem bj_ml1 {post : St2 → Prop} {fr to s : Nat} (hf : fr ≤ s) (hs : s < to) (hto : to ≤ 272) (hw : ∀ k, fr ≤ k → k < to → a6 k = if k = s then 4 else 0)
    (H : ∀ s4 s6 s7, (∀ k, k < 272 → s6 k = a6 k) → (∀ k, k < fr → s4 k = a4 k) → (∀ k, fr ≤ k → k < to → s4 k = if k = s then 1 else 0) → post (f1, f2, f3, f4, f5, f6, f7, f8, f9, f10, f11, a1, a2, a3, s4, a5, s6, s7, a8, a9, a10, a11, a12, a13, a14, a15, a16, a17)) : wpX_makeLengths post (f1, f2, f3, f4, f5, f6, f7, f8, f9, f10, f11, a1, a2, a3, a4, a5, a6, a7, a8, a9, a10, a11, a12, a13, a14, a15, a16, a17) (nI fr) (nI to) := by
  refine bj_m7 (fun s6 s7 h6 h6b h7 => ⟨2, bj_mOne (s := s) (r := 0) (nx := 272) (n := 0) hf (by omega) (by omega) hto (by omega) (fun k k1 k2 => ⟨fun hE => ?_, fun e => ?_⟩) (h7 s (by omega)) ?_⟩)
  · have kt : k < to := by
      rcases hE.1 with h | h <;> omega
    by_cases e : k = s
    · exact e
    · have h := hE.2.1
      rw [h6 k k2, hw k k1 kt, if_neg e] at h
      exact absurd (Int32.le_refl 0) h
  · subst e
    refine ⟨Or.inl hs, ?_, ?_⟩
    · rw [h6 k k2, hw k k1 hs, if_pos rfl]
      decide
    · rw [h7 k (by omega)]
      decide
  · refine bj_m180 (by omega) hto (fun k k1 k2 _ => Or.inl (h7 k (by omega))) (fun s4 h4 h4b => H s4 s6 s7 h6 h4 (fun k k1 k2 => ?_))
    rw [h4b k ⟨k1, k2⟩, h6 k (by omega), hw k k1 k2]
    by_cases e : k = s
    · rw [if_pos e, if_pos e, if_neg (by decide)]
    · rw [if_neg e, if_neg e, if_pos rfl]
theorem bj_ml2 {post : St2 → Prop} {n : Nat} (n1 : 1 ≤ n) (n2 : n ≤ 13) (hw : ∀ k, 256 ≤ k → k < 272 → a6 k = if k = 256 then 3 else if k = 256 + n then 1 else 0)
    (H : ∀ s4 s6 s7, (∀ k, k < 272 → s6 k = a6 k) → (∀ k, k < 256 → s4 k = a4 k) → (∀ k, 256 ≤ k → k < 272 → s4 k = if (k = 256 ∨ k = 256 + n) then 1 else 0) → post (f1, f2, f3, f4, f5, f6, f7, f8, f9, f10, f11, a1, a2, a3, s4, a5, s6, s7, a8, a9, a10, a11, a12, a13, a14, a15, a16, a17)) : wpX_makeLengths post (f1, f2, f3, f4, f5, f6, f7, f8, f9, f10, f11, a1, a2, a3, a4, a5, a6, a7, a8, a9, a10, a11, a12, a13, a14, a15, a16, a17) (nI 256) (nI 272) := by
  refine bj_m7 (fun s6 s7 h6 h6b h7 => ⟨3, ?_⟩)
  have w1 : s6 (256 + n) = 1 := by rw [h6 _ (by omega), hw _ (by omega) (by omega), if_neg (by omega), if_pos rfl]
  have w3 : s6 256 = 3 := by rw [h6 _ (by omega), hw _ (by omega) (by omega), if_pos rfl]
  have w0 : ∀ k, 256 ≤ k → k < 272 → k ≠ 256 → k ≠ 256 + n → s6 k = 0 := fun k k1 k2 k3 k4 => by rw [h6 _ k2, hw _ k1 k2, if_neg k3, if_neg k4]
  refine bj_mTwo (s := 256 + n) (t := 256) (r := 0) (nx := 272) (n := 2) (by omega) (by omega) (by omega) (by omega) (by omega) (by omega) (by omega) (by omega) (fun k k1 k2 => ⟨fun hE => ?_, fun e => ?_⟩) (by rw [w1, w3]; decide) ?_
  · by_cases e1 : k = 256
    · exact Or.inr e1
    · by_cases e2 : k = 256 + n
      · exact Or.inl e2
      · have h := hE.2.1
        rw [w0 k k1 k2 e1 e2] at h
        exact absurd (Int32.le_refl 0) h
  · rcases e with e | e
    · subst e
      exact ⟨Or.inl k2, by rw [w1]; decide, by rw [h7 _ (by omega)]; decide⟩
    · subst e
      exact ⟨Or.inl k2, by rw [w3]; decide, by rw [h7 _ (by omega)]; decide⟩
  · have h272 : upd (upd s7 (256 + n) (nI 272)) 256 (nI 272) 272 = -1 := by
      rw [pk_un (by omega), pk_un (by omega), h7 _ (by omega)]
    refine bj_mOne (s := 272) (r := 1) (nx := 273) (n := 0) (by omega) (by omega) (by omega) (by omega) (by omega) (fun k k1 k2 => ⟨fun hE => ?_, fun e => ?_⟩) h272 ?_
    · by_cases e1 : k = 256
      · exfalso
        subst e1
        have h := hE.2.2
        rw [pk_us] at h
        exact h (nI_pos' (by omega))
      · by_cases e2 : k = 256 + n
        · exfalso
          subst e2
          have h := hE.2.2
          rw [pk_un (by omega), pk_us] at h
          exact h (nI_pos' (by omega))
        · by_cases e3 : k = 272
          · exact e3
          · exfalso
            have h := hE.2.1
            rw [pk_un e3, w0 k k1 (by omega) e1 e2] at h
            exact h (Int32.le_refl 0)
    · subst e
      refine ⟨Or.inr (by omega), ?_, ?_⟩
      · rw [pk_us, w1, w3]
        decide
      · rw [h272]
        decide
    · refine bj_m180 (by omega) (by omega) (fun k k1 k2 hk => ?_) (fun s4 h4 h4b => H s4 _ _ (fun k hk => ?_) h4 (fun k k1 k2 => ?_))
      · rw [pk_un (by omega)] at hk
        refine Or.inr ⟨272, by omega, ?_, h272⟩
        by_cases e1 : k = 256
        · rw [e1, pk_us]
        · rw [pk_un e1]
          by_cases e2 : k = 256 + n
          · rw [e2, pk_us]
          · exact absurd (w0 k k1 k2 e1 e2) hk
      · rw [pk_un (by omega)]
        exact h6 k hk
      · rw [h4b k ⟨k1, k2⟩, pk_un (by omega)]
        by_cases e1 : k = 256
        · rw [if_pos (Or.inl e1), e1, w3, if_neg (by decide)]
        · by_cases e2 : k = 256 + n
          · rw [if_pos (Or.inr e2), e2, w1, if_neg (by decide)]
          · rw [w0 k k1 k2 e1 e2, if_pos rfl, if_neg (by omega)]
end
end
section
/-! makeCodes: the symbols fr and fr + d (d = 0: one symbol) have codes of one digit -/
section
variable {f1 f2 f3 f4 f5 f6 f7 f8 f9 f10 f11 : Int32} {a1 a2 a3 a4 a5 a6 a7 a8 a9 a10 a11 a12 a13 a14 a15 a16 : Nat → Int32} {a17 : Nat → Int64}
def bj_cc (d j : Nat) : Nat := (if 0 < j then 1 else 0) + (if 0 < d ∧ d < j then 1 else 0)
theorem bj_ccN {d j : Nat} (h1 : 0 < j) (h2 : j ≠ d) : bj_cc d (j + 1) = bj_cc d j := by
  unfold bj_cc
  repeat' split
  all_goals omega
theorem bj_cc1 (d : Nat) : bj_cc d 1 = 1 := by
  unfold bj_cc
  repeat' split
  all_goals omega
theorem bj_ccd {d : Nat} (h : 0 < d) : bj_cc d d = 1 ∧ bj_cc d (d + 1) = 2 := by
  unfold bj_cc
  constructor
  · repeat' split
    all_goals omega
  · repeat' split
    all_goals omega
def bj_CP (fr tb : Nat) (a8 a9 a10 a11 a12 s8 s9 s10 s11 s12 : Nat → Int32) : Prop :=
  (∀ k, k < fr → s8 k = a8 k) ∧ (∀ k, k < fr → s9 k = a9 k) ∧ (∀ k, k ≤ tb * 17 → s10 k = a10 k) ∧ (∀ k, k ≤ tb * 17 → s11 k = a11 k) ∧ (∀ k, k ≤ tb * 17 → s12 k = a12 k)
def bj_C1 (fr d : Nat) (s8 s9 : Nat → Int32) : Prop := s8 fr = 0 ∧ s9 fr = nI fr ∧ (0 < d → s8 (fr + d) = 1 ∧ s9 (fr + 1) = nI (fr + d))
def bj_C2 (fr d tb : Nat) (s10 s11 s12 : Nat → Int32) : Prop := s10 (tb * 17 + 1) = 0 ∧ s11 (tb * 17 + 1) = nI fr ∧ s12 (tb * 17 + 1) = nI (if 0 < d then 2 else 1)
def bj_A4 (fr to d : Nat) (s : Nat → Int32) : Prop := ∀ k, fr ≤ k → k < to → s k = if (k = fr ∨ k = fr + d) then 1 else 0
theorem bj_c47a {post : St2 → Prop} {J : _} {fr to d tb : Nat} (hft : fr + d < to) (hto : to ≤ 272) (htb : tb ≤ 1) (h4 : bj_A4 fr to d a4) (h11 : a11 (tb * 17 + 1) = nI fr)
    (H : ∀ x4 x5 s8 s9, (∀ k, k < fr → s8 k = a8 k) → (∀ k, k < fr → s9 k = a9 k) → bj_C1 fr d s8 s9 → J x4 x5 (nI 2) a1 a2 a3 a4 a5 a6 a7 s8 s9 a10 a11 (upd a12 (tb * 17 + 1) (nI (if 0 < d then 2 else 1))) a13 a14 a15 a16 a17) :
    ∃ n, wX_makeCodes_47 post J (nI fr) (nI to) (nI tb) (nI 1) f1 f2 f3 f4 f5 f6 f7 f8 f9 f10 f11 n 0 (nI fr) (nI fr) a1 a2 a3 a4 a5 a6 a7 a8 a9 a10 a11 a12 a13 a14 a15 a16 a17 := by
  have c0 : bj_cc d (fr - fr) = 0 := by
    rw [Nat.sub_self]
    unfold bj_cc
    rw [if_neg (by omega), if_neg (by omega)]
  have main : ∃ n, wX_makeCodes_47 post J (nI fr) (nI to) (nI tb) (nI 1) f1 f2 f3 f4 f5 f6 f7 f8 f9 f10 f11 n (nI (bj_cc d (fr - fr))) (nI (fr + bj_cc d (fr - fr))) (nI fr) a1 a2 a3 a4 a5 a6 a7 a8 a9 a10 a11 a12 a13 a14 a15 a16 a17 := by
    refine pk_loop (fun n i (s : (Nat → Int32) × (Nat → Int32)) => wX_makeCodes_47 post J (nI fr) (nI to) (nI tb) (nI 1) f1 f2 f3 f4 f5 f6 f7 f8 f9 f10 f11 n (nI (bj_cc d (i - fr))) (nI (fr + bj_cc d (i - fr))) (nI i) a1 a2 a3 a4 a5 a6 a7 s.1 s.2 a10 a11 a12 a13 a14 a15 a16 a17)
      (fun i s => fr ≤ i ∧ (∀ k, k < fr → s.1 k = a8 k) ∧ (∀ k, k < fr → s.2 k = a9 k) ∧ (fr < i → s.1 fr = 0 ∧ s.2 fr = nI fr) ∧ (0 < d → fr + d < i → s.1 (fr + d) = 1 ∧ s.2 (fr + 1) = nI (fr + d))) to fr (a8, a9) (by omega)
      ⟨Nat.le_refl _, fun k _ => rfl, fun k _ => rfl, fun h => absurd h (by omega), fun _ h => absurd h (by omega)⟩ ?_ ?_
    · intro n s h
      obtain ⟨h1, h2, h3, h4, h5⟩ := h
      have ecc : bj_cc d (to - fr) = if 0 < d then 2 else 1 := by
        unfold bj_cc
        by_cases hd : 0 < d
        · rw [if_pos (by omega), if_pos ⟨hd, by omega⟩, if_pos hd]
        · rw [if_pos (by omega), if_neg (by omega), if_neg hd]
      have ev : nI (fr + bj_cc d (to - fr)) - a11 (nI tb * 17 + nI 1).toNatClampNeg = nI (if 0 < d then 2 else 1) := by
        rw [show a11 (nI tb * 17 + nI 1).toNatClampNeg = nI fr from bj_rd (tb * 17 + 1) (bj_ix tb 17 1) h11, ecc, pk_sub (by omega), Nat.add_sub_cancel_left]
      exact pk_le to to (fun _ => ⟨pk_in (tb * 17 + 1) 34 (by omega) (bj_ix tb 17 1), pk_in (tb * 17 + 1) 34 (by omega) (bj_ix tb 17 1), nm_r (bj_up (tb * 17 + 1) (bj_ix tb 17 1) ev) (nm_e (nm_r (nI_1 1) (H _ _ s.1 s.2 h2 h3 ⟨(h4 (by omega)).1, (h4 (by omega)).2, fun hd => h5 hd hft⟩)))⟩) (fun z => absurd z (by omega))
    · intro n i s hi h hw
      obtain ⟨s8, s9⟩ := s
      obtain ⟨h1, h2, h3, h4', h5⟩ := h
      dsimp only at h2 h3 h4' h5
      have hw' : ∀ (c : Nat) (t8 t9 : Nat → Int32), c = bj_cc d (i + 1 - fr) → (∀ k, k < fr → t8 k = a8 k) → (∀ k, k < fr → t9 k = a9 k) → (t8 fr = 0 ∧ t9 fr = nI fr) → (0 < d → fr + d < i + 1 → t8 (fr + d) = 1 ∧ t9 (fr + 1) = nI (fr + d)) → wX_makeCodes_47 post J (nI fr) (nI to) (nI tb) (nI 1) f1 f2 f3 f4 f5 f6 f7 f8 f9 f10 f11 n (nI c) (nI (fr + c)) (nI (i + 1)) a1 a2 a3 a4 a5 a6 a7 t8 t9 a10 a11 a12 a13 a14 a15 a16 a17 := by
        intro c t8 t9 ec g1 g2 g3 g4
        subst ec
        exact hw (t8, t9) ⟨by omega, g1, g2, fun _ => g3, g4⟩
      have e4 : a4 (nI i).toNatClampNeg = if (i = fr ∨ i = fr + d) then 1 else 0 := bj_rd i rfl (h4 i h1 hi)
      -- one that has a code
      have hit : ∀ c, fr + c ≤ i → bj_cc d (i - fr) = c → (i = fr ∨ i = fr + d) → wX_makeCodes_47 post J (nI fr) (nI to) (nI tb) (nI 1) f1 f2 f3 f4 f5 f6 f7 f8 f9 f10 f11 n (nI (c + 1)) (nI (fr + c + 1)) (nI (i + 1)) a1 a2 a3 a4 a5 a6 a7 (upd s8 i (nI c)) (upd s9 (fr + c) (nI i)) a10 a11 a12 a13 a14 a15 a16 a17 → wX_makeCodes_47 post J (nI fr) (nI to) (nI tb) (nI 1) f1 f2 f3 f4 f5 f6 f7 f8 f9 f10 f11 (n + 1) (nI (bj_cc d (i - fr))) (nI (fr + bj_cc d (i - fr))) (nI i) a1 a2 a3 a4 a5 a6 a7 s8 s9 a10 a11 a12 a13 a14 a15 a16 a17 := by
        intro c hc1 hc hm t
        rw [hc]
        rw [if_pos hm] at e4
        exact pk_le to i (fun z => absurd z (by omega)) (fun _ => ⟨pk_in i 272 (by omega), br_t e4 ⟨pk_in i 272 (by omega), nm_r (bj_up (v' := nI c) i rfl rfl) ⟨pk_in (fr + c) 272 (by omega), nm_r (bj_up (v' := nI i) (fr + c) rfl rfl) (nm_r (nI_1 c) (nm_r (nI_1 (fr + c)) (nm_r (nI_1 i) t)))⟩⟩⟩)
      by_cases hf : i = fr
      · subst hf
        refine hit 0 (by omega) c0 (Or.inl rfl) (hw' 1 _ _ ?_ (fun k hk => ?_) (fun k hk => ?_) ⟨pk_us, pk_us⟩ (fun hd h => absurd h (by omega)))
        · rw [Nat.add_sub_cancel_left]
          exact (bj_cc1 d).symm
        · rw [pk_un (by omega)]
          exact h2 k hk
        · rw [pk_un (by omega)]
          exact h3 k hk
      · by_cases hd : i = fr + d
        · have ed1 : i - fr = d := by omega
          have ed2 : i + 1 - fr = d + 1 := by omega
          refine hit 1 (by omega) ?_ (Or.inr hd) (hw' 2 _ _ ?_ (fun k hk => ?_) (fun k hk => ?_) ?_ (fun _ h => ?_))
          · rw [ed1]
            exact (bj_ccd (by omega)).1
          · rw [ed2]
            exact (bj_ccd (by omega)).2.symm
          · rw [pk_un (by omega)]
            exact h2 k hk
          · rw [pk_un (by omega)]
            exact h3 k hk
          · rw [pk_un (by omega), pk_un (by omega)]
            exact h4' (by omega)
          · rw [← hd]
            exact ⟨pk_us, pk_us⟩
        · rw [if_neg (by omega)] at e4
          refine pk_le to i (fun z => absurd z (by omega)) (fun _ => ⟨pk_in i 272 (by omega), br_f (by rw [e4]; decide) (nm_r (nI_1 i) (hw' _ _ _ ?_ h2 h3 (h4' (by omega)) (fun hd0 h => h5 hd0 (by omega))))⟩)
          rw [show i + 1 - fr = (i - fr) + 1 by omega]
          exact (bj_ccN (by omega) (by omega)).symm
  rw [c0] at main
  exact main
theorem bj_c47b {post : St2 → Prop} {J : _} {fr to d tb m : Nat} {x4 x5 : Int32} (hft : fr ≤ to) (hto : to ≤ 272) (htb : tb ≤ 1) (m2 : 2 ≤ m) (m16 : m ≤ 16) (h4 : bj_A4 fr to d a4)
    (H : ∀ y4 v, J y4 x5 (nI (m + 1)) a1 a2 a3 a4 a5 a6 a7 a8 a9 a10 a11 (upd a12 (tb * 17 + m) v) a13 a14 a15 a16 a17) : ∃ n, wX_makeCodes_47 post J (nI fr) (nI to) (nI tb) (nI m) f1 f2 f3 f4 f5 f6 f7 f8 f9 f10 f11 n x4 x5 (nI fr) a1 a2 a3 a4 a5 a6 a7 a8 a9 a10 a11 a12 a13 a14 a15 a16 a17 := by
  refine pk_loop (σ := Unit) (fun n i _ => wX_makeCodes_47 post J (nI fr) (nI to) (nI tb) (nI m) f1 f2 f3 f4 f5 f6 f7 f8 f9 f10 f11 n x4 x5 (nI i) a1 a2 a3 a4 a5 a6 a7 a8 a9 a10 a11 a12 a13 a14 a15 a16 a17) (fun i _ => fr ≤ i) to fr () hft (Nat.le_refl _) (fun n _ h => ?_) (fun n i _ hi h hw => ?_)
  · exact pk_le to to (fun _ => ⟨pk_in (tb * 17 + m) 34 (by omega) (bj_ix tb 17 m), pk_in (tb * 17 + m) 34 (by omega) (bj_ix tb 17 m), nm_r (bj_up (tb * 17 + m) (bj_ix tb 17 m) rfl) (nm_e (nm_r (nI_1 m) (H _ _)))⟩) (fun z => absurd z (by omega))
  · have e4 : a4 (nI i).toNatClampNeg = if (i = fr ∨ i = fr + d) then 1 else 0 := bj_rd i rfl (h4 i h hi)
    have hne : ¬ a4 (nI i).toNatClampNeg = nI m := by
      rw [e4]
      intro e
      by_cases hm : i = fr ∨ i = fr + d
      · rw [if_pos hm] at e
        have := (nI_eq (a := 1) (by omega) (by omega)).mp e
        omega
      · rw [if_neg hm] at e
        have := (nI_eq (a := 0) (by omega) (by omega)).mp e
        omega
    exact pk_le to i (fun z => absurd z (by omega)) (fun _ => ⟨pk_in i 272 (by omega), br_f hne (nm_r (nI_1 i) (hw () (by omega)))⟩)
theorem bj_mc {post : St2 → Prop} {fr to d tb : Nat} (hft : fr + d < to) (hto : to ≤ 272) (htb : tb ≤ 1) (h4 : bj_A4 fr to d a4)
    (H : ∀ s8 s9 s10 s11 s12, bj_CP fr tb a8 a9 a10 a11 a12 s8 s9 s10 s11 s12 → bj_C1 fr d s8 s9 → bj_C2 fr d tb s10 s11 s12 → post (f1, f2, f3, f4, f5, f6, f7, f8, f9, f10, f11, a1, a2, a3, a4, a5, a6, a7, s8, s9, s10, s11, s12, a13, a14, a15, a16, a17)) :
    wpX_makeCodes post (f1, f2, f3, f4, f5, f6, f7, f8, f9, f10, f11, a1, a2, a3, a4, a5, a6, a7, a8, a9, a10, a11, a12, a13, a14, a15, a16, a17) (nI fr) (nI to) (nI tb) := by
  refine pk_loop (fun n i (s : Int32 × Int32 × (Nat → Int32) × (Nat → Int32) × (Nat → Int32) × (Nat → Int32) × (Nat → Int32)) => wX_makeCodes_9 post (nI fr) (nI to) (nI tb) f1 f2 f3 f4 f5 f6 f7 f8 f9 f10 f11 n s.1 s.2.1 (nI i) a1 a2 a3 a4 a5 a6 a7 s.2.2.1 s.2.2.2.1 s.2.2.2.2.1 s.2.2.2.2.2.1 s.2.2.2.2.2.2 a13 a14 a15 a16 a17)
    (fun i s => 1 ≤ i ∧ bj_CP fr tb a8 a9 a10 a11 a12 s.2.2.1 s.2.2.2.1 s.2.2.2.2.1 s.2.2.2.2.2.1 s.2.2.2.2.2.2 ∧ (i = 1 → s.1 = 0 ∧ s.2.1 = nI fr) ∧ (2 ≤ i → bj_C1 fr d s.2.2.1 s.2.2.2.1 ∧ bj_C2 fr d tb s.2.2.2.2.1 s.2.2.2.2.2.1 s.2.2.2.2.2.2))
    17 1 (0, nI fr, a8, a9, a10, a11, a12) (by omega) ⟨by omega, ⟨fun k _ => rfl, fun k _ => rfl, fun k _ => rfl, fun k _ => rfl, fun k _ => rfl⟩, fun _ => ⟨rfl, rfl⟩, fun h => absurd h (by omega)⟩
    (fun n s h => pk_lt 16 17 (fun _ => H _ _ _ _ _ h.2.1 (h.2.2.2 (by omega)).1 (h.2.2.2 (by omega)).2) (fun z => absurd z (by omega))) ?_
  intro n i s hi h hw
  obtain ⟨x4, x5, s8, s9, s10, s11, s12⟩ := s
  obtain ⟨h1, ⟨p8, p9, p10, p11, p12⟩, hs, hd⟩ := h
  dsimp only at p8 p9 p10 p11 p12 hs hd
  refine pk_lt 16 i (fun z => absurd z (by omega)) (fun _ => ⟨pk_in (tb * 17 + i) 34 (by omega) (bj_ix tb 17 i), nm_r (bj_up (v' := x4) (tb * 17 + i) (bj_ix tb 17 i) rfl) ⟨pk_in (tb * 17 + i) 34 (by omega) (bj_ix tb 17 i), nm_r (bj_up (v' := x5) (tb * 17 + i) (bj_ix tb 17 i) rfl) ?_⟩⟩)
  by_cases e1 : i = 1
  · subst e1
    obtain ⟨ex4, ex5⟩ := hs rfl
    subst ex4 ex5
    refine bj_c47a hft hto htb h4 pk_us (fun x4 x5 t8 t9 g8 g9 c1 => ?_)
    refine hw (x4, x5, t8, t9, upd s10 (tb * 17 + 1) 0, upd s11 (tb * 17 + 1) (nI fr), upd s12 (tb * 17 + 1) (nI (if 0 < d then 2 else 1))) ⟨by omega, ⟨fun k hk => (g8 k hk).trans (p8 k hk), fun k hk => (g9 k hk).trans (p9 k hk), fun k hk => (pk_un (by omega)).trans (p10 k hk), fun k hk => (pk_un (by omega)).trans (p11 k hk), fun k hk => (pk_un (by omega)).trans (p12 k hk)⟩, fun z => absurd z (by omega), fun _ => ⟨c1, pk_us, pk_us, pk_us⟩⟩
  · obtain ⟨c1, c21, c22, c23⟩ := hd (by omega)
    refine bj_c47b (by omega) hto htb (by omega) (by omega) h4 (fun y4 v => ?_)
    refine hw (y4, x5, s8, s9, upd s10 (tb * 17 + i) x4, upd s11 (tb * 17 + i) x5, upd s12 (tb * 17 + i) v) ⟨by omega, ⟨p8, p9, fun k hk => (pk_un (by omega)).trans (p10 k hk), fun k hk => (pk_un (by omega)).trans (p11 k hk), fun k hk => (pk_un (by omega)).trans (p12 k hk)⟩, fun z => absurd z (by omega), fun _ => ⟨c1, (pk_un (by omega)).trans c21, (pk_un (by omega)).trans c22, (pk_un (by omega)).trans c23⟩⟩
end
end
section
/-! the writer: WI B m: the digits B 0 .. B (m - 1) are written -/
section
variable {f1 f2 f3 f4 f5 f6 f7 f8 f9 f10 f11 : Int32} {a1 a2 a3 a4 a5 a6 a7 a8 a9 a10 a11 a12 a13 a14 a15 a16 : Nat → Int32} {a17 : Nat → Int64}
def bj_pv (B : Nat → Nat) (s : Nat) : Nat → Nat
  | 0 => 0
  | t + 1 => 2 * bj_pv B s t + B (s + t)
def bj_of (B : Nat → Nat) : Nat → Nat
  | 0 => 0
  | i + 1 => bj_of B i + (if bj_pv B (8 * i) 8 = 255 then 2 else 1)
theorem bj_pvS (B : Nat → Nat) (s t : Nat) : bj_pv B s (t + 1) = 2 * bj_pv B s t + B (s + t) := rfl
theorem bj_ofS (B : Nat → Nat) (i : Nat) : bj_of B (i + 1) = bj_of B i + (if bj_pv B (8 * i) 8 = 255 then 2 else 1) := rfl
theorem bj_pvL {B : Nat → Nat} (hB : ∀ i, B i ≤ 1) (s : Nat) : ∀ t, bj_pv B s t < 2 ^ t
  | 0 => by show 0 < 1; omega
  | t + 1 => by
    have h := bj_pvL hB s t
    have hb := hB (s + t)
    rw [bj_pvS, Nat.pow_succ]
    omega
theorem bj_ofL (B : Nat → Nat) : ∀ i, bj_of B i ≤ 2 * i
  | 0 => Nat.le_refl _
  | i + 1 => by
    have h := bj_ofL B i
    rw [bj_ofS]
    split <;> omega
theorem bj_ofM (B : Nat → Nat) {i : Nat} : ∀ {j}, i < j → bj_of B i + (if bj_pv B (8 * i) 8 = 255 then 2 else 1) ≤ bj_of B j
  | 0, h => absurd h (by omega)
  | j + 1, h => by
    rw [bj_ofS B j]
    by_cases e : i = j
    · subst e
      exact Nat.le_refl _
    · have := bj_ofM B (i := i) (j := j) (by omega)
      omega
def bj_BY (B : Nat → Nat) (m : Nat) (y : Nat → Int32) : Prop := ∀ i, i < m → y (bj_of B i) = nI (bj_pv B (8 * i) 8) ∧ (bj_pv B (8 * i) 8 = 255 → y (bj_of B i + 1) = 0)
theorem bj_BYu {B : Nat → Nat} {m k : Nat} {y : Nat → Int32} {x : Int32} (h : bj_BY B m y) (hk : bj_of B m ≤ k) : bj_BY B m (upd y k x) := by
  intro i hi
  have h1 := bj_ofM B hi
  obtain ⟨h2, h3⟩ := h i hi
  refine ⟨?_, fun e => ?_⟩
  · rw [pk_un (by split at h1 <;> omega)]
    exact h2
  · rw [if_pos e] at h1
    rw [pk_un (by omega)]
    exact h3 e
theorem bj_BYs {B : Nat → Nat} {m : Nat} {y : Nat → Int32} (h : bj_BY B m y) (h1 : y (bj_of B m) = nI (bj_pv B (8 * m) 8)) (h2 : bj_pv B (8 * m) 8 = 255 → y (bj_of B m + 1) = 0) : bj_BY B (m + 1) y := by
  intro i hi
  by_cases e : i = m
  · subst e
    exact ⟨h1, h2⟩
  · exact h i (by omega)
def bj_WI (B : Nat → Nat) (m : Nat) (x5 x8 x9 : Int32) (y : Nat → Int32) : Prop :=
  x5 = nI (bj_of B (m / 8)) ∧ x8 = nI (bj_pv B (8 * (m / 8)) (m % 8)) ∧ x9 = nI (m % 8) ∧ bj_BY B (m / 8) y
theorem bj_pb {post : St2 → Prop} {l : Nat} {p : Int32} (hl : l < 1900) (H : post (f1, f2, f3, f4, nI (l + 1), f6, f7, f8, f9, f10, f11, a1, a2, a3, a4, upd a5 l p, a6, a7, a8, a9, a10, a11, a12, a13, a14, a15, a16, a17)) : wpX_putByte post (f1, f2, f3, f4, nI l, f6, f7, f8, f9, f10, f11, a1, a2, a3, a4, a5, a6, a7, a8, a9, a10, a11, a12, a13, a14, a15, a16, a17) p :=
  ⟨pk_in l 1900 hl, nm_r (bj_up l rfl rfl) (nm_r (nI_1 l) H)⟩
theorem bj_or : ∀ a, a < 128 → ∀ b, b < 2 → (nI a <<< ((1 : Int32) &&& 31)) ||| nI b = nI (2 * a + b) := by decide +kernel
theorem bj_p4s {post : St2 → Prop} {n j m : Nat} {v : Int32} {B : Nat → Nat} (hB : ∀ i, B i ≤ 1) (hm : m < 64) (hj : j < 2 ^ 31) (hbit : (v >>> (nI j &&& 31)) &&& 1 = nI (B m)) (hI : bj_WI B m f5 f8 f9 a5)
    (H : ∀ x5 x8 x9 y, bj_WI B (m + 1) x5 x8 x9 y → wX_putBits_4 post v n (nI j + (-1)) f1 f2 f3 f4 x5 f6 f7 x8 x9 f10 f11 a1 a2 a3 a4 y a6 a7 a8 a9 a10 a11 a12 a13 a14 a15 a16 a17) : wX_putBits_4 post v (n + 1) (nI j) f1 f2 f3 f4 f5 f6 f7 f8 f9 f10 f11 a1 a2 a3 a4 a5 a6 a7 a8 a9 a10 a11 a12 a13 a14 a15 a16 a17 := by
  obtain ⟨e5, e8, e9, hY⟩ := hI
  subst e5 e8 e9
  have p7 : bj_pv B (8 * (m / 8)) (m % 8) < 128 := Nat.lt_of_lt_of_le (bj_pvL hB _ _) (Nat.pow_le_pow_right (n := 2) (by decide) (show m % 8 ≤ 7 by omega))
  have hb2 := hB m
  have hofL := bj_ofL B (m / 8)
  have ebuf : (nI (bj_pv B (8 * (m / 8)) (m % 8)) <<< ((1 : Int32) &&& 31)) ||| ((v >>> (nI j &&& 31)) &&& 1) = nI (bj_pv B (8 * (m / 8)) (m % 8 + 1)) := by
    rw [hbit, bj_or _ p7 _ (by omega), bj_pvS, show 8 * (m / 8) + m % 8 = m by omega]
  refine br_f (nI_pos hj) (nm_r ebuf (nm_r (nI_1 (m % 8)) (pk_eq (m % 8 + 1) 8 (fun z => ?_) (fun z => nm_e (H _ _ _ _ ⟨?_, ?_, ?_, ?_⟩)))))
  · have ez : m % 8 + 1 = 8 := z
    rw [ez]
    have q1 : (m + 1) / 8 = m / 8 + 1 := by omega
    have q2 : (m + 1) % 8 = 0 := by omega
    refine bj_pb (by omega) ?_
    by_cases hV : bj_pv B (8 * (m / 8)) 8 = 255
    · refine br_t (by rw [hV]; rfl) (bj_pb (by omega) (nm_e (H _ _ _ _ ⟨?_, ?_, ?_, ?_⟩)))
      · rw [q1, bj_ofS, if_pos hV]
      · rw [q2]
        rfl
      · rw [q2]
        rfl
      · rw [q1]
        refine bj_BYs (bj_BYu (bj_BYu hY (Nat.le_refl _)) (by omega)) ?_ (fun _ => pk_us)
        rw [pk_un (by omega), pk_us]
    · refine br_f (fun e => hV ((nI_eq (b := 255) (Nat.lt_of_lt_of_le (bj_pvL hB _ 8) (by decide)) (by omega)).mp e)) (nm_e (H _ _ _ _ ⟨?_, ?_, ?_, ?_⟩))
      · rw [q1, bj_ofS, if_neg hV]
      · rw [q2]
        rfl
      · rw [q2]
        rfl
      · rw [q1]
        exact bj_BYs (bj_BYu hY (Nat.le_refl _)) pk_us (fun e => absurd e hV)
  · rw [show (m + 1) / 8 = m / 8 by omega]
  · rw [show (m + 1) / 8 = m / 8 by omega, show (m + 1) % 8 = m % 8 + 1 by omega]
  · rw [show (m + 1) % 8 = m % 8 + 1 by omega]
  · rw [show (m + 1) / 8 = m / 8 by omega]
    exact hY
def bj_xj : Nat → Int32
  | 0 => -1
  | j + 1 => nI j
theorem bj_xjp : ∀ j, nI j + (-1) = bj_xj j
  | 0 => rfl
  | j + 1 => pk_m1 j
theorem bj_xjm : ∀ j, nI j - 1 = bj_xj j
  | 0 => rfl
  | j + 1 => nI_pred j
theorem bj_putBits {post : St2 → Prop} {v x : Int32} {n m : Nat} {B : Nat → Nat} (ex : x = nI n) (hB : ∀ i, B i ≤ 1) (hm : m + n ≤ 64) (hb : ∀ i, i < n → (v >>> (nI (n - 1 - i) &&& 31)) &&& 1 = nI (B (m + i))) (hI : bj_WI B m f5 f8 f9 a5)
    (H : ∀ x5 x8 x9 y, bj_WI B (m + n) x5 x8 x9 y → post (f1, f2, f3, f4, x5, f6, f7, x8, x9, f10, f11, a1, a2, a3, a4, y, a6, a7, a8, a9, a10, a11, a12, a13, a14, a15, a16, a17)) : wpX_putBits post (f1, f2, f3, f4, f5, f6, f7, f8, f9, f10, f11, a1, a2, a3, a4, a5, a6, a7, a8, a9, a10, a11, a12, a13, a14, a15, a16, a17) v x := by
  subst ex
  have L := pk_loopD (fun k j (s : Int32 × Int32 × Int32 × (Nat → Int32)) => wX_putBits_4 post v k (bj_xj j) f1 f2 f3 f4 s.1 f6 f7 s.2.1 s.2.2.1 f10 f11 a1 a2 a3 a4 s.2.2.2 a6 a7 a8 a9 a10 a11 a12 a13 a14 a15 a16 a17) (fun j s => j ≤ n ∧ bj_WI B (m + (n - j)) s.1 s.2.1 s.2.2.1 s.2.2.2)
    (fun k s h => br_t (by decide) (H _ _ _ _ h.2))
    (fun k j s h hw => by
      obtain ⟨h1, h2⟩ := h
      have hb' := hb (n - (j + 1)) (by omega)
      rw [show n - 1 - (n - (j + 1)) = j by omega] at hb'
      refine bj_p4s hB (by omega) (by omega) hb' h2 (fun x5 x8 x9 y h' => ?_)
      rw [bj_xjp]
      rw [show m + (n - (j + 1)) + 1 = m + (n - j) by omega] at h'
      exact hw (x5, x8, x9, y) ⟨by omega, h'⟩)
    n (f5, f8, f9, a5) ⟨Nat.le_refl _, by rw [Nat.sub_self]; exact hI⟩
  exact nm_r (bj_xjm n) ⟨_, L⟩
/-- what the reader finds: M digits (whole bytes), a mark behind them -/
def bj_RD (B : Nat → Nat) (M : Nat) (x5 : Int32) (y : Nat → Int32) : Prop := x5 = nI (bj_of B (M / 8) + 2) ∧ bj_BY B (M / 8) y
theorem bj_es {post : St2 → Prop} {B : Nat → Nat} {m M : Nat} (hB : ∀ i, B i ≤ 1) (hpad : ∀ i, m ≤ i → B i = 1) (hM : M = 8 * ((m + 7) / 8)) (hm : m ≤ 48) (hI : bj_WI B m f5 f8 f9 a5)
    (H : ∀ x5 x8 x9 y, bj_RD B M x5 y → post (f1, f2, f3, f4, x5, 0, f7, x8, x9, f10, f11, a1, a2, a3, a4, y, a6, a7, a8, a9, a10, a11, a12, a13, a14, a15, a16, a17)) : wpX_endSegment post (f1, f2, f3, f4, f5, 0, f7, f8, f9, f10, f11, a1, a2, a3, a4, a5, a6, a7, a8, a9, a10, a11, a12, a13, a14, a15, a16, a17) 0 := by
  refine br_t rfl (pk_loop (fun k i (s : Int32 × Int32 × Int32 × (Nat → Int32)) => wX_endSegment_10 post 0 k (nI i) f1 f2 f3 f4 s.1 0 f7 s.2.1 s.2.2.1 f10 f11 a1 a2 a3 a4 s.2.2.2 a6 a7 a8 a9 a10 a11 a12 a13 a14 a15 a16 a17) (fun i s => bj_WI B (m + i) s.1 s.2.1 s.2.2.1 s.2.2.2) (M - m) 0 (f5, f8, f9, a5) (by omega) hI ?_ ?_)
  · intro k s h
    obtain ⟨x5, x8, x9, y⟩ := s
    obtain ⟨e5, e8, e9, hY⟩ := h
    dsimp only at e5 e8 e9 hY
    rw [show m + (M - m) = M by omega] at e5 e8 e9 hY
    subst e5
    have hL := bj_ofL B (M / 8)
    refine pk_le 8 (M - m) (fun z => absurd z (by omega)) (fun _ => br_t (by rw [e9, show M % 8 = 0 by omega]; rfl) (bj_pb (by omega) (bj_pb (by omega) (H _ _ _ _ ⟨rfl, bj_BYu (bj_BYu hY (Nat.le_refl _)) (by omega)⟩))))
  · intro k i s hi h hw
    have e9 := h.2.2.1
    refine pk_le 8 i (fun z => absurd z (by omega)) (fun _ => pk_eq ((m + i) % 8) 0 (fun z => absurd z (by omega)) (fun _ => bj_putBits (n := 1) rfl hB (by omega) (fun t ht => ?_) h (fun x5 x8 x9 y h' => nm_r (nI_1 i) (hw (x5, x8, x9, y) h'))) e9)
    rw [show t = 0 by omega, hpad _ (by omega)]
    decide
theorem bj_symW {post : St2 → Prop} {B : Nat → Nat} {k n m : Nat} {x p1 p2 z : Int32} (hB : ∀ i, B i ≤ 1) (ex : x = nI k) (e2 : p2 = nI n) (hk : k < 272) (hm : m + 1 + n ≤ 64) (h4 : a4 k = 1)
    (hz : (p1 ≤ 0 ∧ (p1 + ((1 : Int32) <<< (p2 &&& 31))) - 1 = z) ∨ (¬ p1 ≤ 0 ∧ p1 = z)) (hb0 : (a8 k >>> (nI 0 &&& 31)) &&& 1 = nI (B m)) (hb : ∀ i, i < n → (z >>> (nI (n - 1 - i) &&& 31)) &&& 1 = nI (B (m + 1 + i))) (hI : bj_WI B m f5 f8 f9 a5)
    (H : ∀ x5 x8 x9 y, bj_WI B (m + 1 + n) x5 x8 x9 y → post (f1, f2, f3, f4, x5, 0, f7, x8, x9, f10, f11, a1, a2, a3, a4, y, a6, a7, a8, a9, a10, a11, a12, a13, a14, a15, a16, a17)) : wpX_symbol post (f1, f2, f3, f4, f5, 0, f7, f8, f9, f10, f11, a1, a2, a3, a4, a5, a6, a7, a8, a9, a10, a11, a12, a13, a14, a15, a16, a17) x p1 p2 := by
  subst ex
  have e8 : a8 (nI k).toNatClampNeg = a8 k := bj_rd k rfl rfl
  refine br_t rfl ⟨pk_in k 272 hk, pk_in k 272 hk, bj_putBits (n := 1) (bj_rd k rfl h4) hB (by omega) (fun t ht => ?_) hI (fun x5 x8 x9 y h' => ?_)⟩
  · rw [e8, show t = 0 by omega]
    exact hb0
  · rcases hz with ⟨h, e⟩ | ⟨h, e⟩
    · subst e
      exact br_t h (bj_putBits e2 hB hm hb h' (fun _ _ _ _ h2 => H _ _ _ _ h2))
    · subst e
      exact br_f h (bj_putBits e2 hB hm hb h' (fun _ _ _ _ h2 => H _ _ _ _ h2))
theorem bj_wbW {post : St2 → Prop} {B : Nat → Nat} {b n m : Nat} {lv ch z : Int32} (hB : ∀ i, B i ≤ 1) (hb : b < 4) (ho : bj_O 64 a3) (hl : ∀ j, j < 256 → a13 j = bj_L lv j) (hch : lv - f7 = ch) (hZ : bj_Z ch n) (hm : m + 1 + n + 1 ≤ 64)
    (h40 : a4 0 = 1) (h80 : a8 0 = 0) (h4 : a4 (256 + n) = 1) (hz : (ch ≤ 0 ∧ (ch + ((1 : Int32) <<< (nI n &&& 31))) - 1 = z) ∨ (¬ ch ≤ 0 ∧ ch = z))
    (hb0 : (a8 (256 + n) >>> (nI 0 &&& 31)) &&& 1 = nI (B m)) (hbs : ∀ i, i < n → (z >>> (nI (n - 1 - i) &&& 31)) &&& 1 = nI (B (m + 1 + i))) (hbe : B (m + 1 + n) = 0) (hI : bj_WI B m f5 f8 f9 a5)
    (H : ∀ x5 x8 x9 y, bj_WI B (m + 1 + n + 1) x5 x8 x9 y → post (f1, f2, f3, f4, x5, 0, lv, x8, x9, f10, f11, a1, a2, a3, a4, y, a6, a7, a8, a9, a10, a11, a12, a13, a14, a15, a16, a17)) : wpX_writeBlock post (f1, f2, f3, f4, f5, 0, f7, f8, f9, f10, f11, a1, a2, a3, a4, a5, a6, a7, a8, a9, a10, a11, a12, a13, a14, a15, a16, a17) (nI b) :=
  bj_wb hb hl hch hZ (fun p hp => bj_symW hB rfl rfl (by have := hZ.1; omega) (by omega) h4 hz hb0 hbs hI (fun x5 x8 x9 y h1 => hp _ _ _ _ _ _ _ _ _ _ _ _ _ _ _ _ _ _ _ _ _ _ _ _ _ _ _ _ (bj_wb51 hb ho hl
    (fun p' hp' => bj_symW (k := 0) (n := 0) (z := 0) hB rfl rfl (by omega) (by omega) h40 (Or.inl ⟨by decide, by decide⟩) (by rw [h80, hbe]; decide) (fun i hi => absurd hi (by omega)) h1 (fun x5 x8 x9 y h2 => hp' _ (H _ _ _ _ h2))))))
end
end
section
/-! the digits that store writes; writeAll; the reader -/
section
variable {f1 f2 f3 f4 f5 f6 f7 f8 f9 f10 f11 : Int32} {a1 a2 a3 a4 a5 a6 a7 a8 a9 a10 a11 a12 a13 a14 a15 a16 : Nat → Int32} {a17 : Nat → Int64}
def bj_B (n z p : Nat) : Nat := if p = 0 then (if n = 0 then 0 else 1) else if p ≤ n then z / 2 ^ (n - p) % 2 else if p < n + 8 then 0 else 1
theorem bj_B1 (n z i : Nat) : bj_B n z i ≤ 1 := by
  unfold bj_B
  repeat' split
  all_goals omega
def bj_mm (n : Nat) : Nat → Nat
  | 0 => 0
  | i + 1 => n + 2 * (i + 1)
def bj_zs (z : Nat) : Nat → Nat
  | 0 => z
  | _ + 1 => 0
/-- z is what is written for v in n digits -/
def bj_V (v : Int32) (n z : Nat) : Prop := (v ≤ 0 ∧ (v + ((1 : Int32) <<< (nI n &&& 31))) - 1 = nI z) ∨ (¬ v ≤ 0 ∧ v = nI z)
theorem bj_V0 : bj_V 0 0 0 := Or.inl ⟨by decide, by decide⟩
theorem bj_chV {lv : Int32} {n z : Nat} (h : bj_V lv n z) : ∀ i, bj_V (bj_ch lv i) (bj_ns n i) (bj_zs z i)
  | 0 => h
  | _ + 1 => bj_V0
/-- the codes -/
def bj_K (n : Nat) (a4 a8 : Nat → Int32) : Prop := a4 0 = 1 ∧ a8 0 = 0 ∧ a4 256 = 1 ∧ a8 256 = 0 ∧ (0 < n → a4 (256 + n) = 1 ∧ a8 (256 + n) = 1)
theorem bj_K4 {n : Nat} (h : bj_K n a4 a8) : ∀ i, a4 (256 + bj_ns n i) = 1
  | 0 => by
    by_cases e : n = 0
    · subst e
      exact h.2.2.1
    · exact (h.2.2.2.2 (by omega)).1
  | _ + 1 => h.2.2.1
theorem bj_B0 {n z p : Nat} (h : n < p) (h2 : p < n + 8) : bj_B n z p = 0 := by
  unfold bj_B
  rw [if_neg (by omega), if_neg (by omega), if_pos h2]
theorem bj_K8 {n : Nat} (z : Nat) (h : bj_K n a4 a8) : ∀ i, i < 4 → (a8 (256 + bj_ns n i) >>> (nI 0 &&& 31)) &&& 1 = nI (bj_B n z (bj_mm n i))
  | 0, _ => by
    by_cases e : n = 0
    · subst e
      show (a8 256 >>> (nI 0 &&& 31)) &&& 1 = nI 0
      rw [h.2.2.2.1]
      decide
    · show (a8 (256 + n) >>> (nI 0 &&& 31)) &&& 1 = nI (bj_B n z 0)
      rw [(h.2.2.2.2 (by omega)).2, bj_B, if_pos rfl, if_neg e]
      decide
  | i + 1, hi => by
    show (a8 256 >>> (nI 0 &&& 31)) &&& 1 = nI (bj_B n z (n + 2 * (i + 1)))
    rw [h.2.2.2.1, bj_B0 (by omega) (by omega)]
    decide
theorem bj_Kz {n z : Nat} (hn : n ≤ 13) (hz : z < 2 ^ 31) : ∀ i, ∀ t, t < bj_ns n i → (nI (bj_zs z i) >>> (nI (bj_ns n i - 1 - t) &&& 31)) &&& 1 = nI (bj_B n z (bj_mm n i + 1 + t))
  | 0, t, ht => by
    have ht' : t < n := ht
    show (nI z >>> (nI (n - 1 - t) &&& 31)) &&& 1 = nI (bj_B n z (0 + 1 + t))
    rw [pk_shrN hz _ (n - 1 - t) (bj_sl _ (by omega)), bj_B, if_neg (by omega), if_pos (by omega), show n - (0 + 1 + t) = n - 1 - t by omega]
    exact pk_andN (Nat.lt_trans (Nat.lt_of_le_of_lt (Nat.div_le_self _ _) hz) (by decide)) 1 rfl
  | _ + 1, t, ht => absurd (show t < 0 from ht) (by omega)
theorem bj_Ke (n z : Nat) : ∀ i, i < 4 → bj_B n z (bj_mm n i + 1 + bj_ns n i) = 0
  | 0, _ => by
    show bj_B n z (0 + 1 + n) = 0
    exact bj_B0 (by omega) (by omega)
  | i + 1, hi => by
    show bj_B n z (n + 2 * (i + 1) + 1 + 0) = 0
    exact bj_B0 (by omega) (by omega)
theorem bj_mmS (n : Nat) : ∀ i, bj_mm n i + 1 + bj_ns n i + 1 = bj_mm n (i + 1)
  | 0 => by
    show 0 + 1 + n + 1 = n + 2 * (0 + 1)
    omega
  | i + 1 => by
    show n + 2 * (i + 1) + 1 + 0 + 1 = n + 2 * (i + 1 + 1)
    omega
theorem bj_mmL {n : Nat} : ∀ i, i ≤ 4 → bj_mm n i ≤ n + 8
  | 0, _ => by
    show 0 ≤ n + 8
    omega
  | i + 1, h => by
    show n + 2 * (i + 1) ≤ n + 8
    omega
theorem bj_waW {post : St2 → Prop} {n z : Nat} {lv : Int32} (ho : bj_O 64 a3) (hl : ∀ j, j < 256 → a13 j = bj_L lv j) (hZ : bj_Z lv n) (hV : bj_V lv n z) (hz : z < 2 ^ 31) (hK : bj_K n a4 a8) (hI : bj_WI (bj_B n z) 0 f5 f8 f9 a5)
    (H : ∀ x5 x8 x9 y, bj_RD (bj_B n z) (8 * ((n + 15) / 8)) x5 y → post (f1, f2, f3, 4, x5, 0, lv, x8, x9, f10, f11, a1, a2, a3, a4, y, a6, a7, a8, a9, a10, a11, a12, a13, a14, a15, a16, a17)) : wpX_writeAll post (f1, f2, f3, 4, f5, f6, f7, f8, f9, f10, f11, a1, a2, a3, a4, a5, a6, a7, a8, a9, a10, a11, a12, a13, a14, a15, a16, a17) 0 := by
  have hn := hZ.1
  refine ⟨rfl, rfl, ?_⟩
  refine pk_loop (fun k i (s : Int32 × Int32 × Int32 × (Nat → Int32)) => wX_writeAll_17 post k 0 (nI i) (nI i) f1 f2 f3 4 s.1 0 (bj_pd lv i) s.2.1 s.2.2.1 f10 f11 a1 a2 a3 a4 s.2.2.2 a6 a7 a8 a9 a10 a11 a12 a13 a14 a15 a16 a17) (fun i s => bj_WI (bj_B n z) (bj_mm n i) s.1 s.2.1 s.2.2.1 s.2.2.2) 4 0 (f5, f8, f9, a5) (by omega) hI
    (fun k s h => pk_le 4 4 (fun _ => bj_es (m := n + 8) (bj_B1 n z) (fun i hi => ?_) rfl (by omega) h (fun x5 x8 x9 y h' => H _ _ _ _ h')) (fun z => absurd z (by omega))) ?_
  · unfold bj_B
    rw [if_neg (by omega), if_neg (by omega), if_neg (by omega)]
  · intro k i s hi h hw
    have hmm := bj_mmL (n := n) (i + 1) (by omega)
    have hmS := bj_mmS n i
    refine pk_le 4 i (fun z => absurd z (by omega)) (fun _ => pk_eq i 4 (fun z => absurd z (by omega)) (fun _ => bj_wbW (z := nI (bj_zs z i)) (bj_B1 n z) hi ho hl (bj_chE lv i) (bj_chZ hZ i) (by omega) hK.1 hK.2.1 (bj_K4 hK i) (bj_chV hV i) (bj_K8 z hK i hi) (bj_Kz hn hz i) (bj_Ke n z i hi) h (fun x5 x8 x9 y h' => nm_r (nI_1 i) (nm_r (nI_1 i) (hw (x5, x8, x9, y) ?_)))))
    rw [hmS] at h'
    exact h'
/-! reading -/
theorem bj_pvA (B : Nat → Nat) (s a : Nat) : ∀ k, bj_pv B s (a + k) = bj_pv B s a * 2 ^ k + bj_pv B (s + a) k
  | 0 => by
    show bj_pv B s a = bj_pv B s a * 1 + 0
    omega
  | k + 1 => by
    have h := bj_pvA B s a k
    rw [show a + (k + 1) = (a + k) + 1 from rfl, bj_pvS, bj_pvS B (s + a) k, h, Nat.pow_succ, show s + (a + k) = s + a + k by omega, ← Nat.mul_assoc]
    omega
theorem bj_bit {B : Nat → Nat} (hB : ∀ i, B i ≤ 1) (s : Nat) {t : Nat} (ht : t < 8) : (nI (bj_pv B s 8) >>> (nI (7 - t) &&& 31)) &&& 1 = nI (B (s + t)) := by
  have e : bj_pv B s 8 = bj_pv B s (t + 1) * 2 ^ (7 - t) + bj_pv B (s + (t + 1)) (7 - t) := by
    rw [← bj_pvA, show t + 1 + (7 - t) = 8 by omega]
  have hr := bj_pvL hB (s + (t + 1)) (7 - t)
  have h8 : bj_pv B s 8 < 256 := bj_pvL hB s 8
  have h1 : bj_pv B s (t + 1) < 256 := Nat.lt_of_lt_of_le (bj_pvL hB s (t + 1)) (Nat.pow_le_pow_right (n := 2) (by decide) (show t + 1 ≤ 8 by omega))
  have ed : bj_pv B s 8 / 2 ^ (7 - t) = bj_pv B s (t + 1) := by
    rw [e, Nat.mul_comm, Nat.mul_add_div (Nat.two_pow_pos _), Nat.div_eq_of_lt hr, Nat.add_zero]
  have hb := hB (s + t)
  rw [pk_shrN (by omega) _ (7 - t) (bj_sl _ (by omega)), ed]
  refine (pk_andN (by omega) 1 rfl).trans ?_
  rw [bj_pvS]
  congr 1
  omega
def bj_RI (B : Nat → Nat) (p : Nat) (x8 x9 x10 : Int32) : Prop :=
  x9 = nI ((8 - p % 8) % 8) ∧ x10 = nI (bj_of B ((p + 7) / 8)) ∧ (p % 8 ≠ 0 → x8 = nI (bj_pv B (8 * (p / 8)) 8))
theorem bj_gb {post : Int32 → St2 → Prop} {B : Nat → Nat} {M p : Nat} (hB : ∀ i, B i ≤ 1) (hM : M ≤ 64) (h8 : M % 8 = 0) (hp : p < M) (hR : bj_RD B M f5 a5) (hI : bj_RI B p f8 f9 f10)
    (H : ∀ x8 x9 x10, bj_RI B (p + 1) x8 x9 x10 → post (nI (B p)) (f1, f2, f3, f4, f5, f6, f7, x8, x9, x10, f11, a1, a2, a3, a4, a5, a6, a7, a8, a9, a10, a11, a12, a13, a14, a15, a16, a17)) : wpX_getBit post (f1, f2, f3, f4, f5, f6, f7, f8, f9, f10, f11, a1, a2, a3, a4, a5, a6, a7, a8, a9, a10, a11, a12, a13, a14, a15, a16, a17) := by
  obtain ⟨e5, hY⟩ := hR
  obtain ⟨e9, e10, e8⟩ := hI
  by_cases hz : p % 8 = 0
  · rw [show (p + 7) / 8 = p / 8 by omega] at e10
    rw [hz] at e9
    subst e5 e9 e10
    obtain ⟨y1, _⟩ := hY (p / 8) (by omega)
    have hlt := bj_ofM B (show p / 8 < M / 8 by omega)
    have hLM := bj_ofL B (M / 8)
    have ez : a5 (nI (bj_of B (p / 8))).toNatClampNeg = nI (bj_pv B (8 * (p / 8)) 8) := bj_rd _ rfl y1 (by omega)
    have hbit : (nI (bj_pv B (8 * (p / 8)) 8) >>> (nI 7 &&& 31)) &&& 1 = nI (B p) := by
      have h := bj_bit hB (8 * (p / 8)) (t := 0) (by omega)
      rw [show 8 * (p / 8) + 0 = p by omega] at h
      exact h
    have q1 : (p + 1) % 8 = 1 := by omega
    have q2 : (p + 1) / 8 = p / 8 := by omega
    have q3 : (p + 1 + 7) / 8 = p / 8 + 1 := by omega
    refine br_t rfl (pk_le (bj_of B (M / 8) + 2) (bj_of B (p / 8)) (fun z => absurd z (by omega)) (fun _ => ⟨pk_in (bj_of B (p / 8)) 1900 (by omega), ?_⟩))
    rw [ez]
    refine nm_r (nI_1 _) ?_
    by_cases hV : bj_pv B (8 * (p / 8)) 8 = 255
    · refine br_t (by rw [hV]; rfl) (nm_r (nI_1 _) (nm_r (show (8 : Int32) - 1 = nI 7 from rfl) ?_))
      rw [hbit]
      refine H _ _ _ ⟨by rw [q1], ?_, fun _ => by rw [q2]⟩
      rw [q3, bj_ofS, if_pos hV]
    · refine br_f (fun e => hV ((nI_eq (b := 255) (Nat.lt_of_lt_of_le (bj_pvL hB _ 8) (by decide)) (by omega)).mp e)) (nm_r (show (8 : Int32) - 1 = nI 7 from rfl) ?_)
      rw [hbit]
      refine H _ _ _ ⟨by rw [q1], ?_, fun _ => by rw [q2]⟩
      rw [q3, bj_ofS, if_neg hV]
  · have e8' := e8 hz
    rw [show (8 - p % 8) % 8 = 8 - p % 8 by omega] at e9
    subst e5 e9 e10 e8'
    have hbit : (nI (bj_pv B (8 * (p / 8)) 8) >>> (nI (7 - p % 8) &&& 31)) &&& 1 = nI (B p) := by
      have h := bj_bit hB (8 * (p / 8)) (t := p % 8) (by omega)
      rw [show 8 * (p / 8) + p % 8 = p by omega] at h
      exact h
    refine br_f (nI_ne0 (by omega) (by omega)) (nm_r (show nI (8 - p % 8) - 1 = nI (7 - p % 8) from (pk_sub (b := 1) (by omega)).trans (by rw [show 8 - p % 8 - 1 = 7 - p % 8 by omega])) ?_)
    rw [hbit]
    refine H _ _ _ ⟨by rw [show (8 - (p + 1) % 8) % 8 = 7 - p % 8 by omega], by rw [show (p + 1 + 7) / 8 = (p + 7) / 8 by omega], fun h => by rw [show (p + 1) / 8 = p / 8 by omega]⟩
theorem bj_gbs {post : Int32 → St2 → Prop} {B : Nat → Nat} {M p n : Nat} (hB : ∀ i, B i ≤ 1) (hM : M ≤ 64) (h8 : M % 8 = 0) (hp : p + n ≤ M) (hR : bj_RD B M f5 a5) (hI : bj_RI B p f8 f9 f10)
    (H : ∀ x8 x9 x10, bj_RI B (p + n) x8 x9 x10 → post (nI (bj_pv B p n)) (f1, f2, f3, f4, f5, f6, f7, x8, x9, x10, f11, a1, a2, a3, a4, a5, a6, a7, a8, a9, a10, a11, a12, a13, a14, a15, a16, a17)) : wpX_getBits post (f1, f2, f3, f4, f5, f6, f7, f8, f9, f10, f11, a1, a2, a3, a4, a5, a6, a7, a8, a9, a10, a11, a12, a13, a14, a15, a16, a17) (nI n) :=
  pk_loop (fun k i (s : Int32 × Int32 × Int32) => wX_getBits_4 post (nI n) k (nI (bj_pv B p i)) (nI i) f1 f2 f3 f4 f5 f6 f7 s.1 s.2.1 s.2.2 f11 a1 a2 a3 a4 a5 a6 a7 a8 a9 a10 a11 a12 a13 a14 a15 a16 a17) (fun i s => bj_RI B (p + i) s.1 s.2.1 s.2.2) n 0 (f8, f9, f10) (by omega) hI
    (fun k s h => pk_le n n (fun _ => H _ _ _ h) (fun z => absurd z (by omega)))
    (fun k i s hi h hw => pk_le n i (fun z => absurd z (by omega)) (fun _ => bj_gb hB hM h8 (by omega) hR h (fun x8 x9 x10 h' => nm_r ((bj_ix (bj_pv B p i) 2 (B (p + i))).trans (by rw [bj_pvS, Nat.mul_comm])) (nm_r (nI_1 i) (hw (x8, x9, x10) h')))))
theorem bj_gs {post : Int32 → St2 → Prop} {B : Nat → Nat} {M p tb fr c sy : Nat} (hB : ∀ i, B i ≤ 1) (hM : M ≤ 64) (h8 : M % 8 = 0) (hp : p < M) (hR : bj_RD B M f5 a5) (hI : bj_RI B p f8 f9 f10) (htb : tb ≤ 1)
    (h10 : a10 (tb * 17 + 1) = 0) (h11 : a11 (tb * 17 + 1) = nI fr) (h12 : a12 (tb * 17 + 1) = nI c) (hc : B p < c) (hc2 : c < 2 ^ 31) (hfr : fr + B p < 272) (h9 : a9 (fr + B p) = nI sy)
    (H : ∀ x8 x9 x10, bj_RI B (p + 1) x8 x9 x10 → post (nI sy) (f1, f2, f3, f4, f5, f6, f7, x8, x9, x10, f11, a1, a2, a3, a4, a5, a6, a7, a8, a9, a10, a11, a12, a13, a14, a15, a16, a17)) : wpX_getSymbol post (f1, f2, f3, f4, f5, f6, f7, f8, f9, f10, f11, a1, a2, a3, a4, a5, a6, a7, a8, a9, a10, a11, a12, a13, a14, a15, a16, a17) (nI tb) := by
  have eI : nI tb * 17 + 1 = nI (tb * 17 + 1) := bj_ix tb 17 1
  have e10 : nI (B p) - a10 (nI tb * 17 + 1).toNatClampNeg = nI (B p) := by
    rw [bj_rd (tb * 17 + 1) eI h10]
    grind
  have e12 : a12 (nI tb * 17 + 1).toNatClampNeg = nI c := bj_rd (tb * 17 + 1) eI h12
  have e11 : a11 (nI tb * 17 + 1).toNatClampNeg + nI (B p) = nI (fr + B p) := by
    rw [bj_rd (tb * 17 + 1) eI h11, nI_add]
  have hb := hB p
  refine ⟨1, br_f (by decide) (bj_gb hB hM h8 hp hR hI (fun x8 x9 x10 h => nm_r ((bj_ix 0 2 (B p)).trans (by rw [Nat.zero_mul, Nat.zero_add])) ⟨pk_in (tb * 17 + 1) 34 (by omega) eI, nm_r e10 (br_f (nI_pos (by omega)) ⟨pk_in (tb * 17 + 1) 34 (by omega) eI, br_f (by rw [e12]; exact nI_ge hc hc2) ⟨pk_in (tb * 17 + 1) 34 (by omega) eI, pk_in (fr + B p) 272 hfr e11, ?_⟩⟩)⟩))⟩
  rw [bj_rd (fr + B p) e11 h9]
  exact H _ _ _ h
theorem bj_gv {post : Int32 → St2 → Prop} {B : Nat → Nat} {M p n z : Nat} {x v : Int32} (ex : x = nI n) (hB : ∀ i, B i ≤ 1) (hM : M ≤ 64) (h8 : M % 8 = 0) (hp : p + n ≤ M) (hn : n ≤ 13) (hR : bj_RD B M f5 a5) (hI : bj_RI B p f8 f9 f10)
    (h0 : n = 0 → v = 0) (hv : 0 < n → (z / 2 ^ (n - 1) = 1 ∧ nI z = v) ∨ (z / 2 ^ (n - 1) ≠ 1 ∧ nI z - ((1 : Int32) <<< (nI n &&& 31)) + 1 = v)) (hz : z < 2 ^ 31) (hpv : bj_pv B p n = z)
    (H : ∀ x8 x9 x10, bj_RI B (p + n) x8 x9 x10 → post v (f1, f2, f3, f4, f5, f6, f7, x8, x9, x10, f11, a1, a2, a3, a4, a5, a6, a7, a8, a9, a10, a11, a12, a13, a14, a15, a16, a17)) : wpX_getValue post (f1, f2, f3, f4, f5, f6, f7, f8, f9, f10, f11, a1, a2, a3, a4, a5, a6, a7, a8, a9, a10, a11, a12, a13, a14, a15, a16, a17) x := by
  subst ex
  by_cases e0 : n = 0
  · subst e0
    have ev := h0 rfl
    subst ev
    exact br_t rfl (H _ _ _ hI)
  · refine br_f (nI_ne0 (by omega) (by omega)) (bj_gbs hB hM h8 hp hR hI (fun x8 x9 x10 h => ?_))
    rw [hpv]
    have es : nI z >>> ((nI n - 1) &&& 31) = nI (z / 2 ^ (n - 1)) := by
      rw [show nI n - 1 = nI (n - 1) from pk_sub (b := 1) (by omega)]
      exact pk_shrN hz _ (n - 1) (bj_sl _ (by omega))
    have hzd : z / 2 ^ (n - 1) < 2 ^ 31 := Nat.lt_of_le_of_lt (Nat.div_le_self _ _) hz
    rcases hv (by omega) with ⟨h1, e⟩ | ⟨h1, e⟩
    · subst e
      exact br_t (by rw [es, h1]; rfl) (H _ _ _ h)
    · subst e
      exact br_f (by rw [es]; exact fun e => h1 ((nI_eq (b := 1) hzd (by omega)).mp e)) (H _ _ _ h)
theorem bj_rb {post : St2 → Prop} {B : Nat → Nat} {M p b n z c : Nat} {v lv : Int32} (hB : ∀ i, B i ≤ 1) (hM : M ≤ 64) (h8 : M % 8 = 0) (hp : p + 1 + n + 1 ≤ M) (hn : n ≤ 13) (hb : b < 4) (hR : bj_RD B M f5 a5) (hI : bj_RI B p f8 f9 f10)
    (g10 : a10 18 = 0) (g11 : a11 18 = nI 256) (g12 : a12 18 = nI c) (hc : B p < c) (hc2 : c < 2 ^ 31) (g9 : a9 (256 + B p) = nI (256 + n))
    (k10 : a10 1 = 0) (k11 : a11 1 = nI 0) (k12 : a12 1 = nI 1) (k9 : a9 0 = nI 0) (hbe : B (p + 1 + n) = 0)
    (h0 : n = 0 → v = 0) (hv : 0 < n → (z / 2 ^ (n - 1) = 1 ∧ nI z = v) ∨ (z / 2 ^ (n - 1) ≠ 1 ∧ nI z - ((1 : Int32) <<< (nI n &&& 31)) + 1 = v)) (hz : z < 2 ^ 31) (hpv : bj_pv B (p + 1) n = z) (hlv : f7 + v = lv)
    (H : ∀ x8 x9 x10, bj_RI B (p + 1 + n + 1) x8 x9 x10 → post (f1, f2, f3, f4, f5, f6, lv, x8, x9, x10, f11, a1, a2, a3, a4, a5, a6, a7, a8, a9, a10, a11, a12, upd a13 (b * 64) lv, a14, a15, a16, a17)) : wpX_readBlock post (f1, f2, f3, f4, f5, f6, f7, f8, f9, f10, f11, a1, a2, a3, a4, a5, a6, a7, a8, a9, a10, a11, a12, a13, a14, a15, a16, a17) (nI b) := by
  have ex : (nI (256 + n) - 256) &&& 15 = nI n := by
    rw [show nI (256 + n) - 256 = nI n from (pk_sub (b := 256) (by omega)).trans (by rw [Nat.add_sub_cancel_left])]
    refine (pk_andN (by omega) 4 rfl).trans ?_
    rw [show n % 2 ^ 4 = n by omega]
  have hbp := hB p
  unfold wpX_readBlock
  dsimp only
  exact bj_gs (tb := 1) (fr := 256) (sy := 256 + n) (c := c) hB hM h8 (by omega) hR hI (by omega) g10 g11 g12 hc hc2 (by omega) g9 (fun x8 x9 x10 h1 => bj_gv ex hB hM h8 (by omega) hn hR h1 h0 hv hz hpv
    (fun x8 x9 x10 h2 => nm_r hlv ⟨pk_in (b * 64) 256 (by omega) (pk_mul b 64), nm_r (bj_up (v' := lv) (b * 64) (pk_mul b 64) rfl) ⟨1, br_f (by decide) (br_f (by decide) (bj_gs (tb := 0) (fr := 0) (sy := 0) (c := 1) hB hM h8 (by omega) hR h2 (by omega) k10 k11 k12 (by omega) (by omega) (by omega) (by rw [hbe]; exact k9) (fun x8 x9 x10 h3 => br_t rfl (H _ _ _ h3))))⟩⟩))
end
end
section
/-! showing -/
section
variable {f1 f2 f3 f4 f5 f6 f7 f8 f9 f10 f11 : Int32} {a1 a2 a3 a4 a5 a6 a7 a8 a9 a10 a11 a12 a13 a14 a15 a16 : Nat → Int32} {a17 : Nat → Int64}
theorem bj_uf {post : Int64 → Prop} {f s i : Nat} {x1 x2 x3 : Int32} {x : Int64} (e1 : x1 = nI f) (e2 : x2 = nI s) (e3 : x3 = nI i) (hi : i < 8) (hf : f + 7 * s < 64) (hq : bj_Q a2) (h0 : a17 f = x) (hr : ∀ u, 1 ≤ u → u < 8 → a17 (f + u * s) = 0)
    (H : post (x * 64)) : wpX_unfolded post (f1, f2, f3, f4, f5, f6, f7, f8, f9, f10, f11, a1, a2, a3, a4, a5, a6, a7, a8, a9, a10, a11, a12, a13, a14, a15, a16, a17) x1 x2 x3 := by
  subst e1 e2 e3
  refine ⟨pk_in f 64 (by omega), bj_wave (u := 0) (by omega) hi hq (nm_r (show a17 (nI f).toNatClampNeg * (bj_wt ((2 * i + 1) * 0 % 32)).toInt64 = x * 64 from ?_) ?_)⟩
  · rw [bj_rd f rfl h0]
    rfl
  · refine pk_loop (fun n u y => wX_unfolded_19 post (nI f) (nI s) (nI i) f1 f2 f3 f4 f5 f6 f7 f8 f9 f10 f11 a1 a2 a3 a4 a5 a6 a7 a8 a9 a10 a11 a12 a13 a14 a15 a16 a17 n y (nI u)) (fun u y => 1 ≤ u ∧ y = x * 64) 8 1 (x * 64) (by omega) ⟨by omega, rfl⟩ (fun n y h => pk_le 8 8 (fun _ => ?_) (fun z => absurd z (by omega))) ?_
    · rw [h.2]
      exact H
    · intro n u y hu h hw
      obtain ⟨h1, h2⟩ := h
      have b1 : f + u * s < 64 := by
        have := Nat.mul_le_mul_right s (show u ≤ 7 by omega)
        omega
      refine pk_le 8 u (fun z => absurd z (by omega)) (fun _ => ⟨pk_in (f + u * s) 64 b1 (bj_xi f u s), bj_wave hu hi hq (nm_r ?_ (nm_r (nI_1 u) (hw (x * 64) ⟨by omega, rfl⟩)))⟩)
      rw [bj_rd (f + u * s) (bj_xi f u s) (hr u h1 hu), h2]
      grind
theorem bj_uc {post : St2 → Prop} {u : Nat} {x : Int64} (hu : u < 8) (hq : bj_Q a2) (h0 : a17 u = x) (hr : ∀ j, 1 ≤ j → j < 8 → a17 (u + j * 8) = 0)
    (H : ∀ s, (∀ k, k < 64 → k % 8 = u → s k = x * 64) → (∀ k, k % 8 ≠ u → s k = a17 k) → post (f1, f2, f3, f4, f5, f6, f7, f8, f9, f10, f11, a1, a2, a3, a4, a5, a6, a7, a8, a9, a10, a11, a12, a13, a14, a15, a16, s)) : wpX_unfoldColumn post (f1, f2, f3, f4, f5, f6, f7, f8, f9, f10, f11, a1, a2, a3, a4, a5, a6, a7, a8, a9, a10, a11, a12, a13, a14, a15, a16, a17) (nI u) := by
  unfold wpX_unfoldColumn
  dsimp only
  refine bj_uf (f := u) (s := 8) (i := 0) rfl rfl rfl (by omega) (by omega) hq h0 hr ?_
  refine bj_uf (f := u) (s := 8) (i := 1) rfl rfl rfl (by omega) (by omega) hq h0 hr ?_
  refine bj_uf (f := u) (s := 8) (i := 2) rfl rfl rfl (by omega) (by omega) hq h0 hr ?_
  refine bj_uf (f := u) (s := 8) (i := 3) rfl rfl rfl (by omega) (by omega) hq h0 hr ?_
  refine bj_uf (f := u) (s := 8) (i := 4) rfl rfl rfl (by omega) (by omega) hq h0 hr ?_
  refine bj_uf (f := u) (s := 8) (i := 5) rfl rfl rfl (by omega) (by omega) hq h0 hr ?_
  refine bj_uf (f := u) (s := 8) (i := 6) rfl rfl rfl (by omega) (by omega) hq h0 hr ?_
  refine bj_uf (f := u) (s := 8) (i := 7) rfl rfl rfl (by omega) (by omega) hq h0 hr ?_
  refine ⟨pk_in u 64 (by omega), nm_r (bj_upL u rfl rfl) ?_⟩
  refine ⟨pk_in (8 + u) 64 (by omega) (nI_add 8 u), nm_r (bj_upL (8 + u) (nI_add 8 u) rfl) ?_⟩
  refine ⟨pk_in (16 + u) 64 (by omega) (nI_add 16 u), nm_r (bj_upL (16 + u) (nI_add 16 u) rfl) ?_⟩
  refine ⟨pk_in (24 + u) 64 (by omega) (nI_add 24 u), nm_r (bj_upL (24 + u) (nI_add 24 u) rfl) ?_⟩
  refine ⟨pk_in (32 + u) 64 (by omega) (nI_add 32 u), nm_r (bj_upL (32 + u) (nI_add 32 u) rfl) ?_⟩
  refine ⟨pk_in (40 + u) 64 (by omega) (nI_add 40 u), nm_r (bj_upL (40 + u) (nI_add 40 u) rfl) ?_⟩
  refine ⟨pk_in (48 + u) 64 (by omega) (nI_add 48 u), nm_r (bj_upL (48 + u) (nI_add 48 u) rfl) ?_⟩
  refine ⟨pk_in (56 + u) 64 (by omega) (nI_add 56 u), nm_r (bj_upL (56 + u) (nI_add 56 u) rfl) ?_⟩
  refine H _ (fun k hk hm => ?_) (fun k hm => ?_)
  · simp only [vp_updL]
    by_cases c7 : k = 56 + u
    · rw [if_pos c7]
    rw [if_neg c7]
    by_cases c6 : k = 48 + u
    · rw [if_pos c6]
    rw [if_neg c6]
    by_cases c5 : k = 40 + u
    · rw [if_pos c5]
    rw [if_neg c5]
    by_cases c4 : k = 32 + u
    · rw [if_pos c4]
    rw [if_neg c4]
    by_cases c3 : k = 24 + u
    · rw [if_pos c3]
    rw [if_neg c3]
    by_cases c2 : k = 16 + u
    · rw [if_pos c2]
    rw [if_neg c2]
    by_cases c1 : k = 8 + u
    · rw [if_pos c1]
    rw [if_neg c1, if_pos (by omega)]
  · simp only [vp_updL]
    rw [if_neg (by omega), if_neg (by omega), if_neg (by omega), if_neg (by omega), if_neg (by omega), if_neg (by omega), if_neg (by omega), if_neg (by omega)]
/-- wide ahead of the columns, and with i columns done -/
def bj_W (w : Int64) (k : Nat) : Int64 := if k = 0 then w else 0
def bj_Y (w : Int64) (i k : Nat) : Int64 := if k % 8 = 0 then (if 0 < i then w * 64 else bj_W w k) else 0
def bj_w (lv : Int32) (q : Nat) : Int64 := lv.toInt64 * (nI (16384 * q)).toInt64
theorem bj_s10 {post : St2 → Prop} {J : _} {b v q : Nat} {lv : Int32} (hb : b < 4) (hv : v < 8) (hl : ∀ j, j < 256 → a13 j = bj_L lv j) (h0 : ∀ k, k < v * 8 → a17 k = bj_W (bj_w lv q) k)
    (H : ∀ s, (∀ k, k < (v + 1) * 8 → s k = bj_W (bj_w lv q) k) → J (nI (v + 1)) a1 a2 a3 a4 a5 a6 a7 a8 a9 a10 a11 a12 a13 a14 a15 a16 s) : ∃ n, wX_showBlock_10 post J (nI b) (nI v) f1 f2 (nI q) f4 f5 f6 f7 f8 f9 f10 f11 n 0 a1 a2 a3 a4 a5 a6 a7 a8 a9 a10 a11 a12 a13 a14 a15 a16 a17 := by
  refine pk_loop (fun n i s => wX_showBlock_10 post J (nI b) (nI v) f1 f2 (nI q) f4 f5 f6 f7 f8 f9 f10 f11 n (nI i) a1 a2 a3 a4 a5 a6 a7 a8 a9 a10 a11 a12 a13 a14 a15 a16 s) (fun i s => ∀ k, k < v * 8 + i → s k = bj_W (bj_w lv q) k) 8 0 a17 (by omega) h0
    (fun n s h => pk_le 8 8 (fun _ => nm_r (nI_1 v) (H s (fun k hk => h k (by omega)))) (fun z => absurd z (by omega))) ?_
  intro n i s hi h hw
  have ev : (a13 ((nI b * 64) + (nI v * 8) + nI i).toNatClampNeg).toInt64 * ((8192 * nI q) * ((2 + nI i) + nI v)).toInt64 = bj_W (bj_w lv q) (v * 8 + i) := by
    rw [show a13 ((nI b * 64) + (nI v * 8) + nI i).toNatClampNeg = bj_L lv (b * 64 + v * 8 + i) from bj_rd (b * 64 + v * 8 + i) (bj_ix2 b 64 v 8 i) (hl _ (by omega))]
    by_cases e : v * 8 + i = 0
    · have ev : v = 0 := by omega
      have ei : i = 0 := by omega
      subst ev ei
      rw [bj_W, if_pos rfl, bj_L, if_pos (by omega), bj_w]
      rw [show (8192 : Int32) * nI q * (2 + nI 0 + nI 0) = nI (16384 * q) from by
        rw [show (8192 : Int32) * nI q = nI (8192 * q) from pk_mul 8192 q, show (2 : Int32) + nI 0 + nI 0 = nI 2 from rfl, pk_mul, show 8192 * q * 2 = 16384 * q by omega]]
    · rw [bj_W, if_neg e, bj_L, if_neg (by omega), show (0 : Int32).toInt64 = 0 from rfl]
      grind
  exact pk_le 8 i (fun z => absurd z (by omega)) (fun _ => ⟨pk_in (b * 64 + v * 8 + i) 256 (by omega) (bj_ix2 b 64 v 8 i), pk_in (v * 8 + i) 64 (by omega) (bj_ix v 8 i), nm_r (bj_upL (v * 8 + i) (bj_ix v 8 i) ev) (nm_r (nI_1 i) (hw _ (bj_ugL (fun k hk hn => h k (by omega)) (fun _ => rfl))))⟩)
theorem bj_s2 {post : St2 → Prop} {b q : Nat} {lv : Int32} (hb : b < 4) (hl : ∀ j, j < 256 → a13 j = bj_L lv j)
    (H : ∀ s, (∀ k, k < 64 → s k = bj_W (bj_w lv q) k) → ∃ n, wX_showBlock_66 post (nI b) n 0 f1 f2 (nI q) f4 f5 f6 f7 f8 f9 f10 f11 a1 a2 a3 a4 a5 a6 a7 a8 a9 a10 a11 a12 a13 a14 a15 a16 s) : ∃ n, wX_showBlock_2 post (nI b) f1 f2 (nI q) f4 f5 f6 f7 f8 f9 f10 f11 n 0 a1 a2 a3 a4 a5 a6 a7 a8 a9 a10 a11 a12 a13 a14 a15 a16 a17 :=
  pk_loop (fun n i s => wX_showBlock_2 post (nI b) f1 f2 (nI q) f4 f5 f6 f7 f8 f9 f10 f11 n (nI i) a1 a2 a3 a4 a5 a6 a7 a8 a9 a10 a11 a12 a13 a14 a15 a16 s) (fun i s => ∀ k, k < i * 8 → s k = bj_W (bj_w lv q) k) 8 0 a17 (by omega) (fun k hk => absurd hk (by omega))
    (fun n s h => pk_le 8 8 (fun _ => H s h) (fun z => absurd z (by omega)))
    (fun n i s hi h hw => pk_le 8 i (fun z => absurd z (by omega)) (fun _ => bj_s10 hb hi hl h (fun s' h' => hw s' h')))
def bj_cl (x : Int32) : Int32 := if 0 ≤ x then (if x ≤ 255 then x else 255) else 0
theorem bj_clamp {post : Int32 → Prop} {x : Int32} (H : post (bj_cl x)) : wpX_clamp post (f1, f2, f3, f4, f5, f6, f7, f8, f9, f10, f11, a1, a2, a3, a4, a5, a6, a7, a8, a9, a10, a11, a12, a13, a14, a15, a16, a17) x := by
  unfold bj_cl at H
  refine br_c (fun h => br_c (fun h2 => ?_) (fun h2 => ?_)) (fun h => ?_)
  · rw [if_pos h, if_pos h2] at H
    exact H
  · rw [if_pos h, if_neg h2] at H
    exact H
  · rw [if_neg h] at H
    exact H
def bj_sh (w : Int64) : Int32 := ((w * 64 * 64 + 536870912) >>> ((30 : Int32).toInt64 &&& 63)).toInt32
theorem bj_s100 {post : St2 → Prop} {J : _} {b j : Nat} {w : Int64} {du : Int32} (hb : b < 4) (hj : j < 8) (hq : bj_Q a2) (hw17 : ∀ k, k < 64 → a17 k = bj_Y w 8 k) (hdu : bj_cl (128 + bj_sh w) = du)
    (h0 : ∀ k, (k < 256 ∧ (k / 128 * 2 + k % 16 / 8 < b ∨ (k / 128 * 2 + k % 16 / 8 = b ∧ k / 16 % 8 < j))) → a14 k = du)
    (H : ∀ s, (∀ k, (k < 256 ∧ (k / 128 * 2 + k % 16 / 8 < b ∨ (k / 128 * 2 + k % 16 / 8 = b ∧ k / 16 % 8 < j + 1))) → s k = du) → J (nI (j + 1)) a1 a2 a3 a4 a5 a6 a7 a8 a9 a10 a11 a12 a13 s a15 a16 a17) :
    ∃ n, wX_showBlock_100 post J (nI (b / 2 * 128 + b % 2 * 8)) (nI j) f1 f2 f3 f4 f5 f6 f7 f8 f9 f10 f11 n 0 a1 a2 a3 a4 a5 a6 a7 a8 a9 a10 a11 a12 a13 a14 a15 a16 a17 := by
  refine pk_loop (fun n i s => wX_showBlock_100 post J (nI (b / 2 * 128 + b % 2 * 8)) (nI j) f1 f2 f3 f4 f5 f6 f7 f8 f9 f10 f11 n (nI i) a1 a2 a3 a4 a5 a6 a7 a8 a9 a10 a11 a12 a13 s a15 a16 a17) (fun i s => ∀ k, (k < 256 ∧ (k / 128 * 2 + k % 16 / 8 < b ∨ (k / 128 * 2 + k % 16 / 8 = b ∧ (k / 16 % 8 < j ∨ (k / 16 % 8 = j ∧ k % 8 < i))))) → s k = du) 8 0 a14 (by omega) (fun k hk => h0 k (by omega))
    (fun n s h => pk_le 8 8 (fun _ => nm_r (nI_1 j) (H s (fun k hk => h k (by omega)))) (fun z => absurd z (by omega))) ?_
  intro n i s hi h hw
  refine pk_le 8 i (fun z => absurd z (by omega)) (fun _ => bj_uf (f := j * 8) (s := 1) (i := i) (x := w * 64) (pk_mul j 8) rfl rfl hi (by omega) hq ?_ (fun u u1 u2 => ?_) (nm_e (bj_clamp ⟨pk_in (b / 2 * 128 + b % 2 * 8 + j * 16 + i) 256 (by omega) (bj_ix3 (b / 2 * 128 + b % 2 * 8) j 16 i), nm_r (bj_up (v' := du) (b / 2 * 128 + b % 2 * 8 + j * 16 + i) (bj_ix3 (b / 2 * 128 + b % 2 * 8) j 16 i) hdu) (nm_r (nI_1 i) (hw _ (bj_ug (fun k hk hn => h k ?_) (fun _ => rfl))))⟩)))
  · rw [hw17 _ (by omega), bj_Y, if_pos (by omega), if_pos (by omega)]
  · rw [hw17 _ (by omega), bj_Y, if_neg (by omega)]
  · omega
theorem bj_s91 {post : St2 → Prop} {b : Nat} {w : Int64} {du : Int32} (hb : b < 4) (hq : bj_Q a2) (hw17 : ∀ k, k < 64 → a17 k = bj_Y w 8 k) (hdu : bj_cl (128 + bj_sh w) = du)
    (h0 : ∀ k, (k < 256 ∧ k / 128 * 2 + k % 16 / 8 < b) → a14 k = du)
    (H : ∀ s, (∀ k, (k < 256 ∧ k / 128 * 2 + k % 16 / 8 < b + 1) → s k = du) → post (f1, f2, f3, f4, f5, f6, f7, f8, f9, f10, f11, a1, a2, a3, a4, a5, a6, a7, a8, a9, a10, a11, a12, a13, s, a15, a16, a17)) : ∃ n, wX_showBlock_91 post (nI (b / 2 * 128 + b % 2 * 8)) f1 f2 f3 f4 f5 f6 f7 f8 f9 f10 f11 n 0 a1 a2 a3 a4 a5 a6 a7 a8 a9 a10 a11 a12 a13 a14 a15 a16 a17 :=
  pk_loop (fun n i s => wX_showBlock_91 post (nI (b / 2 * 128 + b % 2 * 8)) f1 f2 f3 f4 f5 f6 f7 f8 f9 f10 f11 n (nI i) a1 a2 a3 a4 a5 a6 a7 a8 a9 a10 a11 a12 a13 s a15 a16 a17) (fun i s => ∀ k, (k < 256 ∧ (k / 128 * 2 + k % 16 / 8 < b ∨ (k / 128 * 2 + k % 16 / 8 = b ∧ k / 16 % 8 < i))) → s k = du) 8 0 a14 (by omega) (fun k hk => h0 k (by omega))
    (fun n s h => pk_le 8 8 (fun _ => H s (fun k hk => h k (by omega))) (fun z => absurd z (by omega)))
    (fun n i s hi h hw => pk_le 8 i (fun z => absurd z (by omega)) (fun _ => bj_s100 hb hi hq hw17 hdu h (fun s' h' => hw s' h')))
theorem bj_s66 {post : St2 → Prop} {b : Nat} {w : Int64} (hb : b < 4) (hq : bj_Q a2) (h0 : ∀ k, k < 64 → a17 k = bj_W w k)
    (H : ∀ s, (∀ k, k < 64 → s k = bj_Y w 8 k) → ∃ n, wX_showBlock_91 post (nI (b / 2 * 128 + b % 2 * 8)) f1 f2 f3 f4 f5 f6 f7 f8 f9 f10 f11 n 0 a1 a2 a3 a4 a5 a6 a7 a8 a9 a10 a11 a12 a13 a14 a15 a16 s) : ∃ n, wX_showBlock_66 post (nI b) n 0 f1 f2 f3 f4 f5 f6 f7 f8 f9 f10 f11 a1 a2 a3 a4 a5 a6 a7 a8 a9 a10 a11 a12 a13 a14 a15 a16 a17 := by
  refine pk_loop (fun n i s => wX_showBlock_66 post (nI b) n (nI i) f1 f2 f3 f4 f5 f6 f7 f8 f9 f10 f11 a1 a2 a3 a4 a5 a6 a7 a8 a9 a10 a11 a12 a13 a14 a15 a16 s) (fun i s => ∀ k, k < 64 → s k = bj_Y w i k) 8 0 a17 (by omega) (fun k hk => ?_) (fun n s h => pk_le 8 8 (fun _ => ?_) (fun z => absurd z (by omega))) ?_
  · rw [h0 k hk, bj_Y]
    by_cases e : k % 8 = 0
    · rw [if_pos e, if_neg (by omega)]
    · rw [if_neg e, bj_W, if_neg (by omega)]
  · have := H s h
    rw [← bj_co b hb] at this
    exact this
  · intro n i s hi h hw
    refine pk_le 8 i (fun z => absurd z (by omega)) (fun _ => bj_uc (x := bj_Y w i i) hi hq (h i (by omega)) (fun j j1 j2 => ?_) (fun s' h1 h2 => nm_r (nI_1 i) (hw s' (fun k hk => ?_))))
    · rw [h _ (by omega), bj_Y]
      by_cases e : i = 0
      · subst e
        rw [if_pos (by omega), if_neg (by omega), bj_W, if_neg (by omega)]
      · rw [if_neg (by omega)]
    · by_cases e : k % 8 = i
      · rw [h1 k hk e]
        by_cases e0 : i = 0
        · subst e0
          rw [bj_Y, if_pos (by omega), if_neg (by omega), bj_W, if_pos rfl, bj_Y, if_pos e, if_pos (by omega)]
        · rw [bj_Y, if_neg (by omega), bj_Y, if_neg (by omega)]
          rfl
      · rw [h2 k e, h k hk, bj_Y, bj_Y]
        by_cases e1 : k % 8 = 0
        · rw [if_pos e1, if_pos e1, if_pos (by omega), if_pos (by omega)]
        · rw [if_neg e1, if_neg e1]
theorem bj_show1 {post : St2 → Prop} {b q : Nat} {lv du : Int32} (hb : b < 4) (hq : bj_Q a2) (hl : ∀ j, j < 256 → a13 j = bj_L lv j) (hdu : bj_cl (128 + bj_sh (bj_w lv q)) = du)
    (h0 : ∀ k, (k < 256 ∧ k / 128 * 2 + k % 16 / 8 < b) → a14 k = du)
    (H : ∀ s14 s17, (∀ k, (k < 256 ∧ k / 128 * 2 + k % 16 / 8 < b + 1) → s14 k = du) → post (f1, f2, nI q, f4, f5, f6, f7, f8, f9, f10, f11, a1, a2, a3, a4, a5, a6, a7, a8, a9, a10, a11, a12, a13, s14, a15, a16, s17)) : wpX_showBlock post (f1, f2, nI q, f4, f5, f6, f7, f8, f9, f10, f11, a1, a2, a3, a4, a5, a6, a7, a8, a9, a10, a11, a12, a13, a14, a15, a16, a17) (nI b) :=
  bj_s2 hb hl (fun s1 h1 => bj_s66 hb hq h1 (fun s2 h2 => bj_s91 hb hq h2 hdu h0 (fun s3 h3 => H s3 s2 h3)))
end
end
section
/-! decode -/
section
variable {f1 f2 f3 f4 f5 f6 f7 f8 f9 f10 f11 : Int32} {a1 a2 a3 a4 a5 a6 a7 a8 a9 a10 a11 a12 a13 a14 a15 a16 : Nat → Int32} {a17 : Nat → Int64}
theorem bj_VR {v : Int32} {n : Nat} (hZ : bj_Z v n) : ∃ z : Nat, z < 2 ^ n ∧ bj_V v n z ∧ (n = 0 → v = 0) ∧ (0 < n → (z / 2 ^ (n - 1) = 1 ∧ nI z = v) ∨ (z / 2 ^ (n - 1) ≠ 1 ∧ nI z - ((1 : Int32) <<< (nI n &&& 31)) + 1 = v)) := by
  obtain ⟨hn, m, h1, h2, e⟩ := hZ
  by_cases e0 : n = 0
  · subst e0
    have hm : m = 0 := by
      have : m < 1 := h1
      omega
    subst hm
    rcases e with e | ⟨h, _⟩
    · subst e
      exact ⟨0, by decide, bj_V0, fun _ => rfl, fun h => absurd h (by omega)⟩
    · exact absurd h (by omega)
  · have hP : 2 ^ n = 2 * 2 ^ (n - 1) := by
      obtain ⟨k, rfl⟩ : ∃ k, n = k + 1 := ⟨n - 1, by omega⟩
      rw [Nat.add_sub_cancel, Nat.pow_succ, Nat.mul_comm]
    have h3 : 2 ^ (n - 1) ≤ m := h2 (n - 1) (by omega)
    have hL : 2 ^ n ≤ 2 ^ 13 := Nat.pow_le_pow_right (by decide) hn
    have hpos := Nat.two_pow_pos (n - 1)
    have eS : (1 : Int32) <<< (nI n &&& 31) = nI (2 ^ n) := (pk_shlN (n := 1) _ n (bj_sl n (by omega)) (by rw [Nat.one_mul]; omega)).trans (by rw [Nat.one_mul])
    rcases e with e | ⟨h, e⟩
    · subst e
      exact ⟨m, h1, Or.inr ⟨nI_nle (by omega) (by omega), rfl⟩, fun h => absurd h e0, fun _ => Or.inl ⟨Nat.div_eq_of_lt_le (by omega) (by omega), rfl⟩⟩
    · subst e
      have hs : nI (2 ^ n) = nI (2 ^ n - 1 - m) + nI m + 1 := by
        rw [nI_add, nI_1]
        congr 1
        omega
      refine ⟨2 ^ n - 1 - m, by omega, Or.inl ⟨?_, ?_⟩, fun h => absurd h e0, fun _ => Or.inr ⟨?_, ?_⟩⟩
      · rw [Int32.le_iff_toInt_le, sb_negT (by omega)]
        show -(m : Int) ≤ 0
        omega
      · rw [eS, hs]
        grind
      · rw [Nat.div_eq_of_lt (by omega)]
        decide
      · rw [eS, hs]
        grind
theorem bj_pvz {n z : Nat} (hz : z < 2 ^ n) : ∀ t, t ≤ n → bj_pv (bj_B n z) 1 t = z / 2 ^ (n - t)
  | 0, _ => (Nat.div_eq_of_lt hz).symm
  | t + 1, h => by
    have ih := bj_pvz hz t (by omega)
    rw [bj_pvS, ih, bj_B, if_neg (by omega), if_pos (by omega), show n - t = (n - (t + 1)) + 1 by omega, show n - (1 + t) = n - (t + 1) by omega, Nat.pow_succ, ← Nat.div_div_eq_div_mul]
    omega
theorem bj_pvi {n z : Nat} (hz : z < 2 ^ n) : ∀ i, bj_pv (bj_B n z) (bj_mm n i + 1) (bj_ns n i) = bj_zs z i
  | 0 => by
    show bj_pv (bj_B n z) 1 n = z
    rw [bj_pvz hz n (Nat.le_refl _), Nat.sub_self, Nat.pow_zero, Nat.div_one]
  | _ + 1 => rfl
theorem bj_hvi {v : Int32} {n z : Nat} (h : 0 < n → (z / 2 ^ (n - 1) = 1 ∧ nI z = v) ∨ (z / 2 ^ (n - 1) ≠ 1 ∧ nI z - ((1 : Int32) <<< (nI n &&& 31)) + 1 = v)) :
    ∀ i, 0 < bj_ns n i → (bj_zs z i / 2 ^ (bj_ns n i - 1) = 1 ∧ nI (bj_zs z i) = bj_ch v i) ∨ (bj_zs z i / 2 ^ (bj_ns n i - 1) ≠ 1 ∧ nI (bj_zs z i) - ((1 : Int32) <<< (nI (bj_ns n i) &&& 31)) + 1 = bj_ch v i)
  | 0 => h
  | _ + 1 => fun h => absurd (show 0 < 0 from h) (by omega)
theorem bj_h0i {v : Int32} {n : Nat} (h : n = 0 → v = 0) : ∀ i, bj_ns n i = 0 → bj_ch v i = 0
  | 0 => h
  | _ + 1 => fun _ => rfl
/-- the tables for decoding -/
def bj_Tb (n : Nat) (a9 a10 a11 a12 : Nat → Int32) : Prop :=
  a10 18 = 0 ∧ a11 18 = nI 256 ∧ a12 18 = nI (if 0 < n then 2 else 1) ∧ a9 256 = nI 256 ∧ (0 < n → a9 257 = nI (256 + n)) ∧ a10 1 = 0 ∧ a11 1 = nI 0 ∧ a12 1 = nI 1 ∧ a9 0 = nI 0
theorem bj_Tc {n z : Nat} (h : bj_Tb n a9 a10 a11 a12) : ∀ i, i < 4 → bj_B n z (bj_mm n i) < (if 0 < n then 2 else 1) ∧ a9 (256 + bj_B n z (bj_mm n i)) = nI (256 + bj_ns n i)
  | 0, _ => by
    show bj_B n z 0 < (if 0 < n then 2 else 1) ∧ a9 (256 + bj_B n z 0) = nI (256 + n)
    by_cases e : n = 0
    · subst e
      exact ⟨(by decide : (0 : Nat) < 1), h.2.2.2.1⟩
    · rw [bj_B, if_pos rfl, if_neg e, if_pos (by omega)]
      exact ⟨by decide, h.2.2.2.2.1 (by omega)⟩
  | i + 1, hi => by
    show bj_B n z (n + 2 * (i + 1)) < (if 0 < n then 2 else 1) ∧ a9 (256 + bj_B n z (n + 2 * (i + 1))) = nI (256 + 0)
    rw [bj_B0 (by omega) (by omega)]
    refine ⟨?_, h.2.2.2.1⟩
    split <;> omega
theorem bj_pdS (lv : Int32) : ∀ i, bj_pd lv i + bj_ch lv i = lv
  | 0 => by show 0 + lv = lv; grind
  | _ + 1 => by show lv + 0 = lv; grind
theorem bj_nsL {n : Nat} (h : n ≤ 13) : ∀ i, bj_ns n i ≤ 13
  | 0 => h
  | _ + 1 => by show 0 ≤ 13; omega
theorem bj_RI0 (B : Nat → Nat) (x : Int32) : bj_RI B 0 x 0 0 := ⟨rfl, rfl, fun h => absurd rfl h⟩
theorem bj_d58 {post : St2 → Prop} {n z : Nat} {lv : Int32} (hn : n ≤ 13) (hz : z < 2 ^ n) (hv0 : n = 0 → lv = 0) (hv : 0 < n → (z / 2 ^ (n - 1) = 1 ∧ nI z = lv) ∨ (z / 2 ^ (n - 1) ≠ 1 ∧ nI z - ((1 : Int32) <<< (nI n &&& 31)) + 1 = lv))
    (hR : bj_RD (bj_B n z) (8 * ((n + 15) / 8)) f5 a5) (hT : bj_Tb n a9 a10 a11 a12) (h13 : ∀ k, k < 256 → a13 k = 0)
    (H : ∀ x8 x9 x10 y, (∀ k, k < 256 → y k = bj_L lv k) → ∃ m, wX_decode_121 post m 0 f1 f2 f3 4 f5 f6 lv x8 x9 x10 f11 a1 a2 a3 a4 a5 a6 a7 a8 a9 a10 a11 a12 y a14 a15 a16 a17) :
    ∃ m, wX_decode_58 post m 4 0 0 f1 f2 f3 4 f5 f6 0 f8 0 0 f11 a1 a2 a3 a4 a5 a6 a7 a8 a9 a10 a11 a12 a13 a14 a15 a16 a17 := by
  refine pk_loop (fun k i (s : Int32 × Int32 × Int32 × (Nat → Int32)) => wX_decode_58 post k (nI (4 - i)) 0 (nI i) f1 f2 f3 4 f5 f6 (bj_pd lv i) s.1 s.2.1 s.2.2.1 f11 a1 a2 a3 a4 a5 a6 a7 a8 a9 a10 a11 a12 s.2.2.2 a14 a15 a16 a17)
    (fun i s => bj_RI (bj_B n z) (bj_mm n i) s.1 s.2.1 s.2.2.1 ∧ ∀ k, k < 256 → s.2.2.2 k = if k < i * 64 then bj_L lv k else 0) 4 0 (f8, 0, 0, a13) (by omega) ⟨bj_RI0 _ _, fun k hk => ?_⟩
    (fun k s h => pk_le 4 4 (fun _ => H _ _ _ _ (fun k hk => ?_)) (fun z => absurd z (by omega))) ?_
  · rw [if_neg (by omega)]
    exact h13 k hk
  · have := h.2 k hk
    rw [if_pos (by omega)] at this
    exact this
  · intro k i s hi h hw
    obtain ⟨hI, hY⟩ := h
    have hmm := bj_mmL (n := n) (i + 1) (by omega)
    have hmS := bj_mmS n i
    obtain ⟨t18, t18b, t18c, _, _, k10, k11, k12, k9⟩ := hT
    have hzz : bj_zs z i < 2 ^ 31 := by
      have : z < 2 ^ 13 := Nat.lt_of_lt_of_le hz (Nat.pow_le_pow_right (by decide) hn)
      match i with
      | 0 => exact Nat.lt_trans this (by decide)
      | _ + 1 => exact (by decide : 0 < 2 ^ 31)
    obtain ⟨hc, g9⟩ := bj_Tc (z := z) ⟨t18, t18b, t18c, by assumption, by assumption, k10, k11, k12, k9⟩ i hi
    refine pk_le 4 i (fun z => absurd z (by omega)) (fun _ => pk_eq (4 - i) 0 (fun z => absurd z (by omega)) (fun _ => br_t rfl (bj_rb (bj_B1 n z) (by omega) (by omega) (by omega) (bj_nsL hn i) hi hR hI t18 t18b t18c hc (by split <;> decide) g9 k10 k11 k12 k9 (bj_Ke n z i hi) (bj_h0i hv0 i) (bj_hvi hv i) hzz (bj_pvi hz i) (bj_pdS lv i)
      (fun x8 x9 x10 h' => nm_r ((sb_m1 (by omega)).trans (by rw [show 4 - i - 1 = 4 - (i + 1) by omega])) (nm_r (nI_1 i) (hw (x8, x9, x10, upd s.2.2.2 (i * 64) lv) ⟨?_, ?_⟩))))))
    · rw [hmS] at h'
      exact h'
    · refine bj_ug (fun j hj hne => ?_) (fun _ => ?_)
      · rw [hY j hj]
        by_cases e : j < i * 64
        · rw [if_pos e, if_pos (by omega)]
        · rw [if_neg e]
          by_cases e2 : j < (i + 1) * 64
          · rw [if_pos e2, bj_L, if_neg (by omega)]
          · rw [if_neg e2]
      · rw [if_pos (by omega), bj_L, if_pos (by omega)]
theorem bj_d121 {post : St2 → Prop} {q : Nat} {lv du : Int32} (hq : bj_Q a2) (hl : ∀ j, j < 256 → a13 j = bj_L lv j) (hdu : bj_cl (128 + bj_sh (bj_w lv q)) = du)
    (H : ∀ s14 s17, bj_P du s14 → post (f1, f2, nI q, f4, f5, f6, f7, f8, f9, f10, 1, a1, a2, a3, a4, a5, a6, a7, a8, a9, a10, a11, a12, a13, s14, a15, a16, s17)) : ∃ n, wX_decode_121 post n 0 f1 f2 (nI q) f4 f5 f6 f7 f8 f9 f10 f11 a1 a2 a3 a4 a5 a6 a7 a8 a9 a10 a11 a12 a13 a14 a15 a16 a17 :=
  pk_loop (fun n i (s : (Nat → Int32) × (Nat → Int64)) => wX_decode_121 post n (nI i) f1 f2 (nI q) f4 f5 f6 f7 f8 f9 f10 f11 a1 a2 a3 a4 a5 a6 a7 a8 a9 a10 a11 a12 a13 s.1 a15 a16 s.2) (fun i s => ∀ k, (k < 256 ∧ k / 128 * 2 + k % 16 / 8 < i) → s.1 k = du) 4 0 (a14, a17) (by omega) (fun k hk => absurd hk.2 (by omega))
    (fun n s h => pk_le 4 4 (fun _ => H _ _ (fun k hk => h k (by omega))) (fun z => absurd z (by omega)))
    (fun n i s hi h hw => pk_le 4 i (fun z => absurd z (by omega)) (fun _ => bj_show1 hi hq hl hdu h (fun s14 s17 h' => nm_r (nI_1 i) (hw (s14, s17) h'))))
theorem bj_mk {post : Int32 → Prop} {B : Nat → Nat} {M : Nat} (hB : ∀ i, B i ≤ 1) (hM : M ≤ 64) (h1 : 0 < M / 8) (hR : bj_RD B M f5 a5) (H : post 0) : wpX_markAt post (f1, f2, f3, f4, f5, f6, f7, f8, f9, f10, f11, a1, a2, a3, a4, a5, a6, a7, a8, a9, a10, a11, a12, a13, a14, a15, a16, a17) 0 := by
  obtain ⟨e5, hY⟩ := hR
  subst e5
  have hL := bj_ofL B (M / 8)
  obtain ⟨y1, y2⟩ := hY 0 h1
  have y1' : a5 0 = nI (bj_pv B 0 8) := y1
  have y2' : bj_pv B 0 8 = 255 → a5 1 = 0 := y2
  refine pk_le (bj_of B (M / 8) + 2) 1 (fun z => absurd z (by omega)) (fun _ => ⟨pk_in 0 1900 (by omega), br_c (fun h => ⟨pk_in 1 1900 (by omega), br_t ?_ H⟩) (fun _ => H)⟩)
  have h' : a5 0 = 255 := (bj_rd (v := a5 0) 0 (show (0 : Int32) = nI 0 from rfl) rfl).symm.trans h
  rw [y1'] at h'
  have e := (nI_eq (b := 255) (Nat.lt_of_lt_of_le (bj_pvL hB _ 8) (by decide)) (by omega)).mp h'
  rw [show a5 ((0 : Int32) + 1).toNatClampNeg = 0 from bj_rd 1 rfl (y2' e)]
  decide
theorem bj_decode {post : St2 → Prop} {n z q : Nat} {lv du : Int32} (hn : n ≤ 13) (hz : z < 2 ^ n) (hv0 : n = 0 → lv = 0) (hv : 0 < n → (z / 2 ^ (n - 1) = 1 ∧ nI z = lv) ∨ (z / 2 ^ (n - 1) ≠ 1 ∧ nI z - ((1 : Int32) <<< (nI n &&& 31)) + 1 = lv))
    (hR : bj_RD (bj_B n z) (8 * ((n + 15) / 8)) f5 a5) (hT : bj_Tb n a9 a10 a11 a12) (hq : bj_Q a2) (hdu : bj_cl (128 + bj_sh (bj_w lv q)) = du)
    (H : ∀ x8 x9 x10 s13 s14 s17, (∀ j, j < 256 → s13 j = bj_L lv j) → bj_P du s14 → post (f1, f2, nI q, 4, f5, f6, lv, x8, x9, x10, 1, a1, a2, a3, a4, a5, a6, a7, a8, a9, a10, a11, a12, s13, s14, a15, a16, s17)) :
    wpX_decode post (f1, f2, nI q, 4, f5, f6, f7, f8, f9, f10, 0, a1, a2, a3, a4, a5, a6, a7, a8, a9, a10, a11, a12, a13, a14, a15, a16, a17) := by
  refine br_t rfl (pk_loop (fun k i s => wX_decode_10 post f1 f2 (nI q) 4 f5 f6 f7 f8 f9 f10 0 k (nI i) a1 a2 a3 a4 a5 a6 a7 a8 a9 a10 a11 a12 s a14 a15 a16 a17) (fun i s => ∀ k, k < i → s k = 0) 256 0 a13 (by omega) (fun k hk => absurd hk (by omega)) ?_
    (fun k i s hi h hw => pk_le 256 i (fun z => absurd z (by omega)) (fun _ => ⟨pk_in i 256 hi, nm_r (bj_up (v' := 0) i rfl rfl) (nm_r (nI_1 i) (hw _ (bj_ug (fun k hk hn => h k (by omega)) (fun _ => rfl))))⟩)))
  intro k s h
  exact pk_le 256 256 (fun _ => bj_mk (bj_B1 n z) (by omega) (by omega) hR (bj_d58 hn hz hv0 hv hR hT h (fun x8 x9 x10 y hy => bj_d121 hq hy hdu (fun s14 s17 h14 => H _ _ _ _ _ _ hy h14)))) (fun z => absurd z (by omega))
end
end
section
/-! weight, store, level, show, difference -/
section
variable {f1 f2 f3 f4 f5 f6 f7 f8 f9 f10 f11 : Int32} {a1 a2 a3 a4 a5 a6 a7 a8 a9 a10 a11 a12 a13 a14 a15 a16 : Nat → Int32} {a17 : Nat → Int64}
def bj_c (lv : Int32) : Nat := if lv = 0 then 0 else 1
theorem bj_w20 {post : Int32 → St2 → Prop} {b : Nat} {lv : Int32} (hb : b < 4) (hl : ∀ j, j < 256 → a13 j = bj_L lv j) (H : post (nI (bj_c lv)) (f1, f2, f3, f4, f5, f6, f7, f8, f9, f10, f11, a1, a2, a3, a4, a5, a6, a7, a8, a9, a10, a11, a12, a13, a14, a15, a16, a17)) : ∃ n, wX_weight_20 post (nI b) f1 f2 f3 f4 f5 f6 f7 f8 f9 f10 f11 a1 a2 a3 a4 a5 a6 a7 a8 a9 a10 a11 a12 a13 a14 a15 a16 a17 n 0 0 := by
  refine pk_loop (fun n i x => wX_weight_20 post (nI b) f1 f2 f3 f4 f5 f6 f7 f8 f9 f10 f11 a1 a2 a3 a4 a5 a6 a7 a8 a9 a10 a11 a12 a13 a14 a15 a16 a17 n x (nI i)) (fun i x => x = nI (if i = 0 then 0 else bj_c lv)) 64 0 0 (by omega) rfl (fun n x h => pk_le 64 64 (fun _ => ?_) (fun z => absurd z (by omega))) ?_
  · have h' : x = nI (bj_c lv) := h
    rw [h']
    exact H
  · intro n i x hi h hw
    have el : a13 (nI b * 64 + nI i).toNatClampNeg = bj_L lv (b * 64 + i) := bj_rd (b * 64 + i) (bj_ix b 64 i) (hl _ (by omega))
    refine pk_le 64 i (fun z => absurd z (by omega)) (fun _ => ⟨pk_in (b * 64 + i) 256 (by omega) (bj_ix b 64 i), br_c (fun h0 => nm_r (nI_1 i) (hw x ?_)) (fun h0 => nm_e (nm_r (nI_1 i) (hw _ ?_)))⟩)
    · rw [el, bj_L] at h0
      show x = nI (if i + 1 = 0 then 0 else bj_c lv)
      rw [h, show (if i + 1 = 0 then 0 else bj_c lv) = bj_c lv from if_neg (by omega)]
      by_cases e : i = 0
      · subst e
        rw [if_pos (by omega)] at h0
        rw [if_pos rfl, bj_c, if_pos h0]
      · rw [if_neg e]
    · rw [el, bj_L] at h0
      show x + 1 = nI (if i + 1 = 0 then 0 else bj_c lv)
      rw [h, show (if i + 1 = 0 then 0 else bj_c lv) = bj_c lv from if_neg (by omega)]
      by_cases e : i = 0
      · subst e
        rw [if_pos (by omega)] at h0
        rw [if_pos rfl, bj_c, if_neg h0, nI_1]
      · rw [if_neg (by omega)] at h0
        exact absurd rfl h0
theorem bj_weight {post : Int32 → St2 → Prop} {lv p : Int32} (hl : ∀ j, j < 256 → a13 j = bj_L lv j) (Hb : (p < 0 ∨ ¬ p ≤ 3) → post (-1000000) (f1, f2, f3, f4, f5, f6, f7, f8, f9, f10, 1, a1, a2, a3, a4, a5, a6, a7, a8, a9, a10, a11, a12, a13, a14, a15, a16, a17))
    (Hg : ¬ p < 0 → p ≤ 3 → post (nI (bj_c lv)) (f1, f2, f3, f4, f5, f6, f7, f8, f9, f10, 1, a1, a2, a3, a4, a5, a6, a7, a8, a9, a10, a11, a12, a13, a14, a15, a16, a17)) : wpX_weight post (f1, f2, f3, f4, f5, f6, f7, f8, f9, f10, 1, a1, a2, a3, a4, a5, a6, a7, a8, a9, a10, a11, a12, a13, a14, a15, a16, a17) p := by
  refine br_c (fun h => Hb (Or.inl h)) (fun h => br_c (fun h2 => br_f (by decide) ?_) (fun h2 => Hb (Or.inr h2)))
  have hg := Hg h h2
  obtain ⟨b, hb, e⟩ := nI_of2 (M := 3) (n := 3) rfl h h2
  subst e
  exact bj_w20 (by omega) hl hg
theorem bj_wg4 (n k : Nat) : bj_wg n 4 k = 0 + (if k = 256 + n then 1 else 0) + (if k = 0 then 1 else 0) + (if k = 256 then 1 else 0) + (if k = 0 then 1 else 0) + (if k = 256 then 1 else 0) + (if k = 0 then 1 else 0) + (if k = 256 then 1 else 0) + (if k = 0 then 1 else 0) := rfl
theorem bj_wgB (n k : Nat) (hk : 256 ≤ k) : bj_wg n 4 k = (if k = 256 + n then 1 else 0) + (if k = 256 then 3 else 0) := by
  rw [bj_wg4, if_neg (show ¬ k = 0 by omega)]
  by_cases e : k = 256
  · rw [if_pos e, if_pos e]
    omega
  · rw [if_neg e, if_neg e]
    omega
theorem bj_wgA (n k : Nat) (hk : k < 256) : bj_wg n 4 k = if k = 0 then 4 else 0 := by
  rw [bj_wg4, if_neg (show ¬ k = 256 + n by omega), if_neg (show ¬ k = 256 by omega)]
  by_cases e : k = 0
  · rw [if_pos e, if_pos e]
  · rw [if_neg e, if_neg e]
theorem bj_ml {post : St2 → Prop} {n : Nat} (hn : n ≤ 13) (hw : ∀ k, 256 ≤ k → k < 272 → a6 k = nI (bj_wg n 4 k))
    (H : ∀ s4 s6 s7, (∀ k, k < 256 → s4 k = a4 k) → bj_A4 256 272 n s4 → post (f1, f2, f3, f4, f5, f6, f7, f8, f9, f10, f11, a1, a2, a3, s4, a5, s6, s7, a8, a9, a10, a11, a12, a13, a14, a15, a16, a17)) : wpX_makeLengths post (f1, f2, f3, f4, f5, f6, f7, f8, f9, f10, f11, a1, a2, a3, a4, a5, a6, a7, a8, a9, a10, a11, a12, a13, a14, a15, a16, a17) (nI 256) (nI 272) := by
  have hg := bj_wgB n
  by_cases e : n = 0
  · subst e
    refine bj_ml1 (s := 256) (by omega) (by omega) (by omega) (fun k k1 k2 => ?_) (fun s4 s6 s7 h6 h4 h4b => H s4 s6 s7 h4 (fun k k1 k2 => ?_))
    · rw [hw k k1 k2, hg k k1]
      by_cases e : k = 256
      · rw [if_pos (show k = 256 + 0 by omega), if_pos e, if_pos e]
        rfl
      · rw [if_neg (show ¬ k = 256 + 0 by omega), if_neg e, if_neg e]
        rfl
    · rw [h4b k k1 k2]
      by_cases e : k = 256
      · rw [if_pos e, if_pos (Or.inl e)]
      · rw [if_neg e, if_neg (by omega)]
  · refine bj_ml2 (n := n) (by omega) hn (fun k k1 k2 => ?_) (fun s4 s6 s7 h6 h4 h4b => H s4 s6 s7 h4 h4b)
    rw [hw k k1 k2, hg k k1]
    by_cases e1 : k = 256
    · rw [if_neg (show ¬ k = 256 + n by omega), if_pos e1, if_pos e1]
      rfl
    · rw [if_neg e1, if_neg e1]
      by_cases e2 : k = 256 + n
      · rw [if_pos e2, if_pos e2]
        rfl
      · rw [if_neg e2, if_neg e2]
        rfl
theorem bj_st128 {post : Int32 → St2 → Prop} {n z q : Nat} {lv du : Int32} (hn : n ≤ 13) (hz : z < 2 ^ n) (hv0 : n = 0 → lv = 0) (hv : 0 < n → (z / 2 ^ (n - 1) = 1 ∧ nI z = lv) ∨ (z / 2 ^ (n - 1) ≠ 1 ∧ nI z - ((1 : Int32) <<< (nI n &&& 31)) + 1 = lv))
    (hR : bj_RD (bj_B n z) (8 * ((n + 15) / 8)) f5 a5) (hT : bj_Tb n a9 a10 a11 a12) (hq : bj_Q a2) (hdu : bj_cl (128 + bj_sh (bj_w lv q)) = du)
    (H : ∀ x8 x9 x10 s13 s14 s17, (∀ j, j < 256 → s13 j = bj_L lv j) → bj_P du s14 → post (nI (4 * bj_c lv)) (f1, f2, nI q, 4, f5, f6, lv, x8, x9, x10, 1, a1, a2, a3, a4, a5, a6, a7, a8, a9, a10, a11, a12, s13, s14, a15, a16, s17)) :
    ∃ m, wX_store_128 post m 0 0 f1 f2 (nI q) 4 f5 f6 f7 f8 f9 f10 0 a1 a2 a3 a4 a5 a6 a7 a8 a9 a10 a11 a12 a13 a14 a15 a16 a17 := by
  refine ⟨5, pk_le 4 0 (fun z => absurd z (by omega)) (fun _ => br_f (by decide) (br_t (by decide) (bj_decode hn hz hv0 hv hR hT hq hdu (fun x8 x9 x10 s13 s14 s17 h13 h14 => bj_w20 (b := 0) (by omega) h13 (nm_r (show (0 : Int32) + nI (bj_c lv) = nI (1 * bj_c lv) from (nI_add 0 _).trans (by rw [Nat.zero_add, Nat.one_mul])) (nm_r (nI_1 0) ?_))))))⟩
  refine loop_i (fun k i x => wX_store_128 post k x (nI i) f1 f2 (nI q) 4 f5 f6 lv x8 x9 x10 1 a1 a2 a3 a4 a5 a6 a7 a8 a9 a10 a11 a12 s13 s14 a15 a16 s17) (fun i x => x = nI (i * bj_c lv)) 4 (fun k x h => pk_le 4 4 (fun _ => ?_) (fun z => absurd z (by omega))) (fun k i x hi h hw => ?_) 4 1 _ (by omega) (by omega) rfl
  · have h' : x = nI (4 * bj_c lv) := h
    rw [h']
    exact H _ _ _ _ _ _ h13 h14
  · refine pk_le 4 i (fun z => absurd z (by omega)) (fun _ => br_f (nI_pos (by omega)) (br_t (nI_le (b := 3) (by omega) (by omega)) (br_f (by decide) (bj_w20 hi h13 (nm_r (show x + nI (bj_c lv) = nI ((i + 1) * bj_c lv) from ?_) (nm_r (nI_1 i) (hw _ rfl)))))))
    have h' : x = nI (i * bj_c lv) := h
    rw [h', nI_add, Nat.succ_mul]
theorem bj_store {post : Int32 → St2 → Prop} {q n : Nat} {g c lv du : Int32} (q1 : 1 ≤ q) (q8 : q ≤ 8) (hp : bj_P g a1) (hq : bj_Q a2) (ho : bj_O 64 a3) (hc : g - 128 = c) (hD : bj_D (262144 * c) (16384 * q) lv) (hZ : bj_Z lv n) (hdu : bj_cl (128 + bj_sh (bj_w lv q)) = du)
    (H : ∀ f5 f6 f7 f8 f9 f10 a4 a5 a6 a7 a8 a9 a10 a11 a12 a13 a14 a15 a16 a17, (∀ j, j < 256 → a13 j = bj_L lv j) → bj_P du a14 → post (nI (4 * bj_c lv)) (nI q, 4, nI q, 4, f5, f6, f7, f8, f9, f10, 1, a1, a2, a3, a4, a5, a6, a7, a8, a9, a10, a11, a12, a13, a14, a15, a16, a17)) :
    wpX_store post (nI q, 4, f3, f4, f5, f6, f7, f8, f9, f10, f11, a1, a2, a3, a4, a5, a6, a7, a8, a9, a10, a11, a12, a13, a14, a15, a16, a17) := by
  have hn := hZ.1
  obtain ⟨z, z1, z2, z3, z4⟩ := bj_VR hZ
  have hz31 : z < 2 ^ 31 := Nat.lt_of_lt_of_le z1 (Nat.pow_le_pow_right (by decide) (by omega))
  -- the second half: behind the levels
  have back : ∀ s13 s15 s16, (∀ j, j < 256 → s13 j = bj_L lv j) → ∃ k, wX_store_36 post (nI q) 4 (nI q) 4 f5 f6 f7 f8 f9 f10 f11 k 0 a1 a2 a3 a4 a5 a6 a7 a8 a9 a10 a11 a12 s13 a14 s15 s16 a17 := by
    intro s13 s15 s16 h13
    refine pk_loop (fun k i s => wX_store_36 post (nI q) 4 (nI q) 4 f5 f6 f7 f8 f9 f10 f11 k (nI i) a1 a2 a3 a4 a5 s a7 a8 a9 a10 a11 a12 s13 a14 s15 s16 a17) (fun i s => ∀ j, j < i → s j = 0) 272 0 a6 (by omega) (fun k hk => absurd hk (by omega)) ?_
      (fun k i s hi h hw => pk_le 272 i (fun z => absurd z (by omega)) (fun _ => ⟨pk_in i 544 (by omega), nm_r (bj_up (v' := 0) i rfl rfl) (nm_r (nI_1 i) (hw _ (bj_ug (fun k hk hn => h k (by omega)) (fun _ => rfl))))⟩))
    intro k s h
    refine pk_le 272 272 (fun _ => bj_waC ho h13 hZ h (fun s6 h6 => ?_)) (fun z => absurd z (by omega))
    refine bj_ml1 (fr := 0) (to := 256) (s := 0) (by omega) (by omega) (by omega) (fun k k1 k2 => by rw [h6 k (by omega), bj_wgA n k k2]; split <;> rfl) (fun t4 t6 t7 g6 _ g4 => ?_)
    refine bj_ml (n := n) hn (fun k k1 k2 => by rw [g6 k k2, h6 k k2]) (fun u4 u6 u7 e4 hA => ?_)
    have hA0 : bj_A4 0 256 0 u4 := fun k k1 k2 => by
      rw [e4 k k2, g4 k k1 k2]
      by_cases e : k = 0
      · rw [if_pos e, if_pos (Or.inl e)]
      · rw [if_neg e, if_neg (by omega)]
    refine bj_mc (fr := 0) (to := 256) (d := 0) (tb := 0) (by omega) (by omega) (by omega) hA0 (fun v8 v9 v10 v11 v12 _ c1 c2 => ?_)
    refine bj_mc (fr := 256) (to := 272) (d := n) (tb := 1) (by omega) (by omega) (by omega) hA (fun w8 w9 w10 w11 w12 pp d1 d2 => ?_)
    obtain ⟨p8, p9, p10, p11, p12⟩ := pp
    have hK : bj_K n u4 w8 := by
      refine ⟨?_, ?_, ?_, d1.1, fun h0 => ⟨?_, (d1.2.2 h0).1⟩⟩
      · rw [hA0 0 (by omega) (by omega), if_pos (Or.inl rfl)]
      · rw [p8 0 (by omega)]
        exact c1.1
      · rw [hA 256 (by omega) (by omega), if_pos (Or.inl rfl)]
      · rw [hA (256 + n) (by omega) (by omega), if_pos (Or.inr rfl)]
    have hT : bj_Tb n w9 w10 w11 w12 := by
      refine ⟨d2.1, d2.2.1, d2.2.2, d1.2.1, fun h0 => (d1.2.2 h0).2, ?_, ?_, ?_, ?_⟩
      · rw [p10 1 (by omega)]
        exact c2.1
      · rw [p11 1 (by omega)]
        exact c2.2.1
      · rw [p12 1 (by omega)]
        exact c2.2.2
      · rw [p9 0 (by omega)]
        exact c1.2.1
    refine bj_waW ho h13 hZ z2 hz31 hK ⟨rfl, rfl, rfl, fun i hi => absurd hi (by omega)⟩ (fun x5 x8 x9 y hR => ?_)
    exact bj_st128 hn z1 z3 z4 hR hT hq hdu (fun x8 x9 x10 s13 s14 s17 k13 k14 => H _ _ _ _ _ _ _ _ _ _ _ _ _ _ _ _ _ _ _ _ k13 k14)
  exact pk_loop (fun k i (s : (Nat → Int32) × (Nat → Int32) × (Nat → Int32)) => wX_store_18 post k (nI i) (nI q) 4 (nI q) 4 f5 f6 f7 f8 f9 f10 f11 a1 a2 a3 a4 a5 a6 a7 a8 a9 a10 a11 a12 s.1 a14 s.2.1 s.2.2 a17) (fun i s => ∀ j, j < i * 64 → s.1 j = bj_L lv j) 4 0 (a13, a15, a16) (by omega) (fun k hk => absurd hk (by omega))
    (fun k s h => pk_le 4 4 (fun _ => back _ _ _ h) (fun z => absurd z (by omega)))
    (fun k i s hi h hw => pk_le 4 i (fun z => absurd z (by omega)) (fun _ => bj_quantise hi q1 q8 hp hq hc hD h (fun s13 s15 s16 h' => nm_r (nI_1 i) (hw (s13, s15, s16) h'))))
theorem bj_level {post : Int32 → St2 → Prop} {lv p0 p1 p2 : Int32} (hl : ∀ j, j < 256 → a13 j = bj_L lv j)
    (Hb : (p0 < 0 ∨ 3 < p0 ∨ p1 < 0 ∨ 7 < p1 ∨ p2 < 0 ∨ 7 < p2) → post (-1000000) (f1, f2, f3, f4, f5, f6, f7, f8, f9, f10, 1, a1, a2, a3, a4, a5, a6, a7, a8, a9, a10, a11, a12, a13, a14, a15, a16, a17))
    (Hg : ¬ p0 < 0 → ¬ 3 < p0 → ¬ p1 < 0 → ¬ 7 < p1 → ¬ p2 < 0 → ¬ 7 < p2 → post (if p1 = 0 ∧ p2 = 0 then lv else 0) (f1, f2, f3, f4, f5, f6, f7, f8, f9, f10, 1, a1, a2, a3, a4, a5, a6, a7, a8, a9, a10, a11, a12, a13, a14, a15, a16, a17)) : wpX_level post (f1, f2, f3, f4, f5, f6, f7, f8, f9, f10, 1, a1, a2, a3, a4, a5, a6, a7, a8, a9, a10, a11, a12, a13, a14, a15, a16, a17) p0 p1 p2 := by
  refine br_c (fun h => Hb (Or.inl h)) (fun h1 => br_c (fun h => Hb (Or.inr (Or.inl h))) (fun h2 => br_c (fun h => Hb (Or.inr (Or.inr (Or.inl h)))) (fun h3 => br_c (fun h => Hb (Or.inr (Or.inr (Or.inr (Or.inl h))))) (fun h4 => br_c (fun h => Hb (Or.inr (Or.inr (Or.inr (Or.inr (Or.inl h)))))) (fun h5 => br_c (fun h6 => br_f (by decide) ?_) (fun h => Hb (Or.inr (Or.inr (Or.inr (Or.inr (Or.inr (Int32.not_le.mp h))))))))))))
  have hg := Hg h1 h2 h3 h4 h5 (Int32.not_lt.mpr h6)
  obtain ⟨b, hb, e0⟩ := nI_of2 (M := 3) (n := 3) rfl h1 (Int32.not_lt.mp h2)
  obtain ⟨x, hx, e1⟩ := nI_of2 (M := 7) (n := 7) rfl h3 (Int32.not_lt.mp h4)
  obtain ⟨y, hy, e2⟩ := nI_of2 (M := 7) (n := 7) rfl h5 h6
  subst e0 e1 e2
  refine ⟨pk_in (b * 64 + y * 8 + x) 256 (by omega) (bj_ix2 b 64 y 8 x), ?_⟩
  rw [show a13 (nI b * 64 + nI y * 8 + nI x).toNatClampNeg = bj_L lv (b * 64 + y * 8 + x) from bj_rd (b * 64 + y * 8 + x) (bj_ix2 b 64 y 8 x) (hl _ (by omega))]
  have ei : bj_L lv (b * 64 + y * 8 + x) = if nI x = 0 ∧ nI y = 0 then lv else 0 := by
    rw [bj_L]
    by_cases e : x = 0 ∧ y = 0
    · obtain ⟨e1, e2⟩ := e
      subst e1 e2
      rw [if_pos (by omega), if_pos ⟨rfl, rfl⟩]
    · rw [if_neg (by omega), if_neg]
      intro h
      exact e ⟨(nI_eq (b := 0) (by omega) (by omega)).mp h.1, (nI_eq (b := 0) (by omega) (by omega)).mp h.2⟩
  rw [ei]
  exact hg
theorem bj_showP {post : Int32 → St2 → Prop} {du p0 p1 : Int32} (hd : bj_P du a14)
    (Hb : (p0 < 0 ∨ 15 < p0 ∨ p1 < 0 ∨ 15 < p1) → post (-1000000) (f1, f2, f3, f4, f5, f6, f7, f8, f9, f10, 1, a1, a2, a3, a4, a5, a6, a7, a8, a9, a10, a11, a12, a13, a14, a15, a16, a17)) (Hg : ¬ p0 < 0 → ¬ 15 < p0 → ¬ p1 < 0 → ¬ 15 < p1 → post du (f1, f2, f3, f4, f5, f6, f7, f8, f9, f10, 1, a1, a2, a3, a4, a5, a6, a7, a8, a9, a10, a11, a12, a13, a14, a15, a16, a17)) : wpX_show post (f1, f2, f3, f4, f5, f6, f7, f8, f9, f10, 1, a1, a2, a3, a4, a5, a6, a7, a8, a9, a10, a11, a12, a13, a14, a15, a16, a17) p0 p1 := by
  have t16 : ∀ p : Int32, p < 16 → ¬ 15 < p := by
    intro p h h2
    rw [Int32.lt_iff_toInt_lt] at h h2
    have e1 : (16 : Int32).toInt = 16 := rfl
    have e2 : (15 : Int32).toInt = 15 := rfl
    omega
  have t16' : ∀ p : Int32, ¬ p < 16 → 15 < p := by
    intro p h
    rw [Int32.lt_iff_toInt_lt] at h ⊢
    have e1 : (16 : Int32).toInt = 16 := rfl
    have e2 : (15 : Int32).toInt = 15 := rfl
    omega
  refine br_c (fun h => br_f (by decide) (Hb (Or.inl h))) (fun h1 => br_c (fun h2 => br_t rfl (br_c (fun h => br_f (by decide) (Hb (Or.inr (Or.inr (Or.inl h))))) (fun h3 => br_c (fun h4 => br_t rfl (br_f (by decide) ?_)) (fun h => br_f (by decide) (Hb (Or.inr (Or.inr (Or.inr (t16' _ h))))))))) (fun h => br_f (by decide) (Hb (Or.inr (Or.inl (t16' _ h))))))
  have hg := Hg h1 (t16 _ h2) h3 (t16 _ h4)
  obtain ⟨x, hx, e1⟩ := nI_of2 (M := 15) (n := 15) rfl h1 (Int32.not_lt.mp (t16 _ h2))
  obtain ⟨y, hy, e2⟩ := nI_of2 (M := 15) (n := 15) rfl h3 (Int32.not_lt.mp (t16 _ h4))
  subst e1 e2
  refine ⟨pk_in (y * 16 + x) 256 (by omega) (bj_ix y 16 x), ?_⟩
  rw [show a14 (nI y * 16 + nI x).toNatClampNeg = du from bj_rd (y * 16 + x) (bj_ix y 16 x) (hd _ (by omega))]
  exact hg
theorem bj_diff {post : Int32 → St2 → Prop} {g du ga : Int32} (hp : bj_P g a1) (hd : bj_P du a14) (hga : (0 ≤ g - du ∧ g - du = ga) ∨ (¬ 0 ≤ g - du ∧ -(g - du) = ga)) (H : post (256 * ga) (f1, f2, f3, f4, f5, f6, f7, f8, f9, f10, 1, a1, a2, a3, a4, a5, a6, a7, a8, a9, a10, a11, a12, a13, a14, a15, a16, a17)) : wpX_difference post (f1, f2, f3, f4, f5, f6, f7, f8, f9, f10, 1, a1, a2, a3, a4, a5, a6, a7, a8, a9, a10, a11, a12, a13, a14, a15, a16, a17) := by
  refine br_f (by decide) (pk_loop (fun n i x => wX_difference_8 post f1 f2 f3 f4 f5 f6 f7 f8 f9 f10 1 a1 a2 a3 a4 a5 a6 a7 a8 a9 a10 a11 a12 a13 a14 a15 a16 a17 n x (nI i)) (fun i x => x = nI i * ga) 256 0 0 (by omega) (show (0 : Int32) = nI 0 * ga from by rw [nI_0]; grind) (fun n x h => pk_le 256 256 (fun _ => ?_) (fun z => absurd z (by omega))) ?_)
  · have h' : x = 256 * ga := h
    rw [h']
    exact H
  · intro n i x hi h hw
    have h' : x = nI i * ga := h
    have ed : a1 (nI i).toNatClampNeg - a14 (nI i).toNatClampNeg = g - du := by
      rw [nI_clamp (by omega), hp i hi, hd i hi]
    have en : x + ga = nI (i + 1) * ga := by
      rw [h', nI_succ]
      grind
    refine pk_le 256 i (fun z => absurd z (by omega)) (fun _ => ⟨pk_in i 256 hi, pk_in i 256 hi, nm_r ed ?_⟩)
    rcases hga with ⟨hc, e⟩ | ⟨hc, e⟩
    · exact br_t hc (nm_r (by rw [e]; exact en) (nm_r (nI_1 i) (hw _ rfl)))
    · exact br_f hc (nm_r (by rw [e]; exact en) (nm_r (nI_1 i) (hw _ rfl)))
end
end
section
/-! the numbers of the law -/
theorem bj_b32 {x : Int} (h1 : -2147483648 ≤ x) (h2 : x < 2147483648) : x.bmod (2 ^ 32) = x := Int.bmod_eq_of_le_mul_two (y := 4294967296) (by omega) (by omega)
theorem bj_b64 {x : Int} (h1 : -9223372036854775808 ≤ x) (h2 : x < 9223372036854775808) : x.bmod (2 ^ 64) = x := Int.bmod_eq_of_le_mul_two (y := 18446744073709551616) (by omega) (by omega)
theorem bj_lshr (a s : Int64) (k : Nat) (hs : (s.toBitVec.smod 64).toNat = k) : (a >>> s).toInt = a.toInt >>> k := by
  show (a.toBitVec.sshiftRight (s.toBitVec.smod 64).toNat).toInt = _
  rw [hs, BitVec.toInt_sshiftRight]
  rfl
theorem bj_wI {lv : Int32} {q : Nat} {P : Int} (hP : lv.toInt * (q : Int) = P) (h1 : -2052 ≤ P) (h2 : P ≤ 2052) (hq : q ≤ 8) : (bj_w lv q).toInt = 16384 * P := by
  rw [bj_w, Int64.toInt_mul, Int32.toInt_toInt64, Int32.toInt_toInt64, nI_toInt (by omega), show ((16384 * q : Nat) : Int) = 16384 * (q : Int) by omega, Int.mul_left_comm, hP, bj_b64 (by omega) (by omega)]
theorem bj_shI {lv : Int32} {q : Nat} {P : Int} (hP : lv.toInt * (q : Int) = P) (h1 : -2052 ≤ P) (h2 : P ≤ 2052) (hq : q ≤ 8) : (bj_sh (bj_w lv q)).toInt = (P + 8) / 16 := by
  have hw := bj_wI hP h1 h2 hq
  have ea : (bj_w lv q * 64 * 64 + 536870912).toInt = (P + 8) * 67108864 := by
    rw [Int64.toInt_add, Int64.toInt_mul, Int64.toInt_mul, hw, show (64 : Int64).toInt = 64 from rfl, show (536870912 : Int64).toInt = 536870912 from rfl, bj_b64 (x := 16384 * P * 64) (by omega) (by omega), bj_b64 (x := 16384 * P * 64 * 64) (by omega) (by omega), bj_b64 (by omega) (by omega)]
    omega
  rw [bj_sh, Int64.toInt_toInt32, bj_lshr _ _ 30 (by decide), ea, Int.shiftRight_eq_div_pow]
  have e : (P + 8) * 67108864 / ((2 ^ 30 : Nat) : Int) = (P + 8) / 16 := by
    rw [show ((2 ^ 30 : Nat) : Int) = 1073741824 from rfl]
    omega
  rw [e, bj_b32 (by omega) (by omega)]
def bj_bk (lv : Int32) (q : Nat) : Int32 := ((lv * nI q) + 8) >>> ((4 : Int32) &&& 31)
theorem bj_bkI {lv : Int32} {q : Nat} {P : Int} (hP : lv.toInt * (q : Int) = P) (h1 : -2052 ≤ P) (h2 : P ≤ 2052) (hq : q ≤ 8) : (bj_bk lv q).toInt = (P + 8) / 16 := by
  rw [bj_bk, pk_shr _ _ 4 (by decide), Int32.toInt_add, Int32.toInt_mul, nI_toInt (by omega), hP, show (8 : Int32).toInt = 8 from rfl, bj_b32 (x := P) (by omega) (by omega), bj_b32 (by omega) (by omega), Int.shiftRight_eq_div_pow]
  rfl
def bj_du (lv : Int32) (q : Nat) : Int32 := if -128 ≤ bj_bk lv q then (if bj_bk lv q ≤ 127 then 128 + bj_bk lv q else 255) else 0
theorem bj_duE {lv : Int32} {q : Nat} {P : Int} (hP : lv.toInt * (q : Int) = P) (h1 : -2052 ≤ P) (h2 : P ≤ 2052) (hq : q ≤ 8) : bj_cl (128 + bj_sh (bj_w lv q)) = bj_du lv q := by
  have hb := bj_bkI hP h1 h2 hq
  have e : bj_sh (bj_w lv q) = bj_bk lv q := Int32.toInt_inj.mp (by rw [hb, bj_shI hP h1 h2 hq])
  have t : (128 + bj_bk lv q).toInt = 128 + (P + 8) / 16 := by
    rw [Int32.toInt_add, hb, show (128 : Int32).toInt = 128 from rfl, bj_b32 (by omega) (by omega)]
  have c1 : (0 : Int32) ≤ 128 + bj_bk lv q ↔ -128 ≤ bj_bk lv q := by
    rw [Int32.le_iff_toInt_le, Int32.le_iff_toInt_le, t, hb, show (0 : Int32).toInt = 0 from rfl, show (-128 : Int32).toInt = -128 from rfl]
    omega
  have c2 : 128 + bj_bk lv q ≤ 255 ↔ bj_bk lv q ≤ 127 := by
    rw [Int32.le_iff_toInt_le, Int32.le_iff_toInt_le, t, hb, show (255 : Int32).toInt = 255 from rfl, show (127 : Int32).toInt = 127 from rfl]
    omega
  rw [e, bj_cl, bj_du]
  by_cases g1 : -128 ≤ bj_bk lv q
  · rw [if_pos g1, if_pos (c1.mpr g1)]
    by_cases g2 : bj_bk lv q ≤ 127
    · rw [if_pos g2, if_pos (c2.mpr g2)]
    · rw [if_neg g2, if_neg (fun h => g2 (c2.mp h))]
  · rw [if_neg g1, if_neg (fun h => g1 (c1.mp h))]
theorem bj_clN (x : Int32) : ∃ d : Nat, d ≤ 255 ∧ bj_cl x = nI d := by
  unfold bj_cl
  by_cases h : 0 ≤ x
  · rw [if_pos h]
    by_cases h2 : x ≤ 255
    · rw [if_pos h2]
      exact nI_of2 (M := 255) (n := 255) rfl (Int32.not_lt.mpr h) h2
    · rw [if_neg h2]
      exact ⟨255, by omega, rfl⟩
  · rw [if_neg h]
    exact ⟨0, by omega, rfl⟩
def bj_o (gr : Nat) : Nat := if gr < 128 then 128 - gr else gr - 128
def bj_sz (gr q : Nat) : Nat := (2 * bj_o gr * 16 + q) / (2 * q)
def bj_lv (gr q : Nat) : Int32 := if gr < 128 then -nI (bj_sz gr q) else nI (bj_sz gr q)
theorem bj_szE (o q : Nat) : (2 * (262144 * o) + 16384 * q) / (2 * (16384 * q)) = (2 * o * 16 + q) / (2 * q) := by
  rw [show 2 * (262144 * o) + 16384 * q = 16384 * (2 * o * 16 + q) by omega, show 2 * (16384 * q) = 16384 * (2 * q) by omega, Nat.mul_div_mul_left _ _ (by decide)]
theorem bj_szB {gr q : Nat} (hg : gr ≤ 255) (q1 : 1 ≤ q) (q8 : q ≤ 8) : bj_sz gr q * q ≤ 2052 ∧ bj_sz gr q < 2 ^ 13 := by
  have ho : bj_o gr ≤ 128 := by
    unfold bj_o
    split <;> omega
  have h := Nat.div_mul_le_self (2 * bj_o gr * 16 + q) (2 * q)
  have h2 : bj_sz gr q * (2 * q) = 2 * (bj_sz gr q * q) := Nat.mul_left_comm _ _ _
  have h3 : bj_sz gr q * (2 * q) ≤ 2 * bj_o gr * 16 + q := h
  have h4 : bj_sz gr q * 1 ≤ bj_sz gr q * q := Nat.mul_le_mul_left _ q1
  omega
theorem bj_sz0 {gr q : Nat} (hg : gr < 128) (q1 : 1 ≤ q) (q8 : q ≤ 8) : 0 < bj_sz gr q := by
  have ho : bj_o gr = 128 - gr := if_pos hg
  refine Nat.div_pos ?_ (by omega)
  rw [ho]
  omega
theorem bj_lvD {gr q : Nat} (hg : gr ≤ 255) (q1 : 1 ≤ q) (q8 : q ≤ 8) : bj_D (262144 * (nI gr - 128)) (16384 * q) (bj_lv gr q) := by
  by_cases h : gr < 128
  · have e1 : (128 : Int32) = nI gr + nI (128 - gr) := by
      rw [nI_add, show gr + (128 - gr) = 128 by omega]
      rfl
    have e2 : nI (262144 * (128 - gr)) = 262144 * nI (128 - gr) := (pk_mul 262144 _).symm
    refine Or.inr ⟨262144 * (128 - gr), by omega, by omega, ?_, ?_⟩
    · rw [e2]
      generalize nI (128 - gr) = y at e1
      generalize nI gr = x at e1
      grind
    · rw [bj_lv, if_pos h, bj_szE, bj_sz, bj_o, if_pos h]
  · have e1 : nI gr - 128 = nI (gr - 128) := pk_sub (b := 128) (by omega)
    refine Or.inl ⟨262144 * (gr - 128), by omega, ?_, ?_⟩
    · rw [e1]
      exact pk_mul 262144 _
    · rw [bj_lv, if_neg h, bj_szE, bj_sz, bj_o, if_neg h]
theorem bj_lvZ {gr q : Nat} (hg : gr ≤ 255) (q1 : 1 ≤ q) (q8 : q ≤ 8) : ∃ n, bj_Z (bj_lv gr q) n := by
  have hb := (bj_szB hg q1 q8).2
  obtain ⟨k, k1, k2⟩ := pk_least (fun k => bj_sz gr q < 2 ^ k) ⟨13, hb⟩
  refine ⟨k, ?_, bj_sz gr q, k1, fun i hi => Nat.not_lt.mp (k2 i hi), ?_⟩
  · rcases Nat.lt_or_ge 13 k with h | h
    · exact absurd hb (k2 13 h)
    · exact h
  · by_cases h : gr < 128
    · exact Or.inr ⟨bj_sz0 h q1 q8, if_pos h⟩
    · exact Or.inl (if_neg h)
theorem bj_lvP {gr q : Nat} (hg : gr ≤ 255) (q1 : 1 ≤ q) (q8 : q ≤ 8) : ∃ P : Int, (bj_lv gr q).toInt * (q : Int) = P ∧ -2052 ≤ P ∧ P ≤ 2052 := by
  obtain ⟨b1, b2⟩ := bj_szB hg q1 q8
  have b1' : ((bj_sz gr q * q : Nat) : Int) ≤ 2052 := by omega
  refine ⟨_, rfl, ?_⟩
  by_cases h : gr < 128
  · rw [bj_lv, if_pos h, sb_negT (by omega), Int.neg_mul, ← Int.natCast_mul]
    omega
  · rw [bj_lv, if_neg h, nI_toInt (by omega), ← Int.natCast_mul]
    omega
def bj_ga (g du : Int32) : Int32 := if du ≤ g then g - du else du - g
theorem bj_gaE {gr dn : Nat} (hg : gr ≤ 255) (hd : dn ≤ 255) : (0 ≤ nI gr - nI dn ∧ nI gr - nI dn = bj_ga (nI gr) (nI dn)) ∨ (¬ 0 ≤ nI gr - nI dn ∧ -(nI gr - nI dn) = bj_ga (nI gr) (nI dn)) := by
  unfold bj_ga
  rcases Nat.lt_or_ge gr dn with h | h
  · refine Or.inr ⟨fun z => absurd (pk_sneg (by omega) h) (Int32.not_lt.mpr z), ?_⟩
    rw [if_neg (nI_ge h (by omega))]
    grind
  · refine Or.inl ⟨?_, ?_⟩
    · rw [pk_sub h]
      exact nI_pos' (by omega)
    · rw [if_pos (nI_le h (by omega))]
end
section
/-! the law -/
section
variable {f1 f2 f3 f4 f5 f6 f7 f8 f9 f10 f11 : Int32} {a1 a2 a3 a4 a5 a6 a7 a8 a9 a10 a11 a12 a13 a14 a15 a16 : Nat → Int32} {a17 : Nat → Int64}
theorem bj_fillP {post : Int32 → St2 → Prop} {g : Int32} (hp : bj_P 128 a1)
    (H : ∀ r g' s, ((g < 0 ∨ 255 < g) → r = -1000000 ∧ g' = 128) → (¬ (g < 0 ∨ 255 < g) → r = 0 ∧ g' = g) → bj_P g' s → post r (f1, f2, f3, f4, f5, f6, f7, f8, f9, f10, f11, s, a2, a3, a4, a5, a6, a7, a8, a9, a10, a11, a12, a13, a14, a15, a16, a17)) : wpX_fill post (f1, f2, f3, f4, f5, f6, f7, f8, f9, f10, f11, a1, a2, a3, a4, a5, a6, a7, a8, a9, a10, a11, a12, a13, a14, a15, a16, a17) 0 0 g :=
  bj_fill (fun h => H _ 128 a1 (fun _ => ⟨rfl, rfl⟩) (fun hn => absurd (h.imp id Int32.not_le.mp) hn) hp)
    (fun h1 h2 s hs => H _ g s (fun h => h.elim (fun z => absurd z h1) (fun z => absurd z (Int32.not_lt.mpr h2))) (fun _ => ⟨rfl, rfl⟩) hs)
theorem bj_qualityP {post : Int32 → St2 → Prop} {g : Int32} (H : ∀ r q', ((g < 1 ∨ 8 < g) → q' = 1) → (¬ (g < 1 ∨ 8 < g) → q' = g) → post r (q', f2, f3, f4, f5, f6, f7, f8, f9, f10, f11, a1, a2, a3, a4, a5, a6, a7, a8, a9, a10, a11, a12, a13, a14, a15, a16, a17)) : wpX_quality post (1, f2, f3, f4, f5, f6, f7, f8, f9, f10, f11, a1, a2, a3, a4, a5, a6, a7, a8, a9, a10, a11, a12, a13, a14, a15, a16, a17) g :=
  bj_quality (fun h => H _ 1 (fun _ => rfl) (fun hn => absurd (h.imp id Int32.not_le.mp) hn))
    (fun h1 h2 => H _ g (fun h => h.elim (fun z => absurd z h1) (fun z => absurd z (Int32.not_lt.mpr h2))) (fun _ => rfl))
theorem bj_levelP {post : Int32 → St2 → Prop} {lv p0 p1 p2 : Int32} (hl : ∀ j, j < 256 → a13 j = bj_L lv j)
    (H : ∀ r, ((p0 < 0 ∨ 3 < p0 ∨ p1 < 0 ∨ 7 < p1 ∨ p2 < 0 ∨ 7 < p2) → r = -1000000) → (¬ (p0 < 0 ∨ 3 < p0 ∨ p1 < 0 ∨ 7 < p1 ∨ p2 < 0 ∨ 7 < p2) → r = if p1 = 0 ∧ p2 = 0 then lv else 0) → post r (f1, f2, f3, f4, f5, f6, f7, f8, f9, f10, 1, a1, a2, a3, a4, a5, a6, a7, a8, a9, a10, a11, a12, a13, a14, a15, a16, a17)) : wpX_level post (f1, f2, f3, f4, f5, f6, f7, f8, f9, f10, 1, a1, a2, a3, a4, a5, a6, a7, a8, a9, a10, a11, a12, a13, a14, a15, a16, a17) p0 p1 p2 :=
  bj_level hl (fun h => H _ (fun _ => rfl) (fun hn => absurd h hn)) (fun h1 h2 h3 h4 h5 h6 => H _ (fun h => by rcases h with h | h | h | h | h | h <;> contradiction) (fun _ => rfl))
theorem bj_showQ {post : Int32 → St2 → Prop} {du p0 p1 : Int32} (hd : bj_P du a14)
    (H : ∀ r, ((p0 < 0 ∨ 15 < p0 ∨ p1 < 0 ∨ 15 < p1) → r = -1000000) → (¬ (p0 < 0 ∨ 15 < p0 ∨ p1 < 0 ∨ 15 < p1) → r = du) → post r (f1, f2, f3, f4, f5, f6, f7, f8, f9, f10, 1, a1, a2, a3, a4, a5, a6, a7, a8, a9, a10, a11, a12, a13, a14, a15, a16, a17)) : wpX_show post (f1, f2, f3, f4, f5, f6, f7, f8, f9, f10, 1, a1, a2, a3, a4, a5, a6, a7, a8, a9, a10, a11, a12, a13, a14, a15, a16, a17) p0 p1 :=
  bj_showP hd (fun h => H _ (fun _ => rfl) (fun hn => absurd h hn)) (fun h1 h2 h3 h4 => H _ (fun h => by rcases h with h | h | h | h <;> contradiction) (fun _ => rfl))
theorem bj_weightP {post : Int32 → St2 → Prop} {lv p : Int32} (hl : ∀ j, j < 256 → a13 j = bj_L lv j)
    (H : ∀ r, ((p < 0 ∨ 3 < p) → r = -1000000) → (¬ (p < 0 ∨ 3 < p) → r = nI (bj_c lv)) → post r (f1, f2, f3, f4, f5, f6, f7, f8, f9, f10, 1, a1, a2, a3, a4, a5, a6, a7, a8, a9, a10, a11, a12, a13, a14, a15, a16, a17)) : wpX_weight post (f1, f2, f3, f4, f5, f6, f7, f8, f9, f10, 1, a1, a2, a3, a4, a5, a6, a7, a8, a9, a10, a11, a12, a13, a14, a15, a16, a17) p :=
  bj_weight hl (fun h => H _ (fun _ => rfl) (fun hn => absurd (h.imp id Int32.not_le.mp) hn)) (fun h1 h2 => H _ (fun h => h.elim (fun z => absurd z h1) (fun z => absurd z (Int32.not_lt.mpr h2))) (fun _ => rfl))
end
section
variable {post : Int32 → St0 → Prop} {mc ms kc ks : Nat} {x0 x1 x2 x3 x4 x6 x7 x8 x9 x10 x11 x12 x13 x14 x15 x16 x17 x20 x22 x23 z0 z1 : Int32}
theorem bj_443 (h : z1 = z0) (h12 : x12 = 256 * x23) (hp : post 1 ()) : wL_lawOf_443 post mc ms x12 x23 z0 z1 kc ks := br_t h (br_t h12 hp)
theorem bj_418 (h : z1 = z0) (a11 : x15 = 0 → x11 = -1000000) (b11 : ¬ x15 = 0 → x11 = if x20 = 0 then 0 else 1) (h12 : x12 = 256 * x23) (hp : post 1 ()) : wL_lawOf_418 post mc ms x11 x12 x15 x20 x23 z0 z1 kc ks :=
  br_t h (br_c (fun e => bj_443 (a11 e) h12 hp) (fun e => br_c (fun e2 => bj_443 (by rw [b11 e, if_pos e2]) h12 hp) (fun e2 => bj_443 (by rw [b11 e, if_neg e2]) h12 hp)))
theorem bj_401 (h : z1 = z0) (a10 : x17 = 0 → x10 = -1000000) (b10 : ¬ x17 = 0 → x10 = x22) (a11 : x15 = 0 → x11 = -1000000) (b11 : ¬ x15 = 0 → x11 = if x20 = 0 then 0 else 1) (h12 : x12 = 256 * x23) (hp : post 1 ()) :
    wL_lawOf_401 post mc ms x10 x11 x12 x15 x17 x20 x22 x23 z0 z1 kc ks :=
  br_t h (br_c (fun e => bj_418 (a10 e) a11 b11 h12 hp) (fun e => bj_418 (b10 e) a11 b11 h12 hp))
theorem bj_372 (h : z1 = z0) (a9 : x16 = 0 → x9 = -1000000) (b9 : ¬ x16 = 0 → x9 = if x2 = 0 ∧ x3 = 0 then x20 else 0) (a10 : x17 = 0 → x10 = -1000000) (b10 : ¬ x17 = 0 → x10 = x22) (a11 : x15 = 0 → x11 = -1000000) (b11 : ¬ x15 = 0 → x11 = if x20 = 0 then 0 else 1) (h12 : x12 = 256 * x23) (hp : post 1 ()) :
    wL_lawOf_372 post mc ms x2 x3 x9 x10 x11 x12 x15 x16 x17 x20 x22 x23 z0 z1 kc ks :=
  br_t h (br_c (fun e => bj_401 (a9 e) a10 b10 a11 b11 h12 hp) (fun e => br_c
    (fun e2 => br_c (fun e3 => bj_401 (by rw [b9 e, if_pos ⟨e2, e3⟩]) a10 b10 a11 b11 h12 hp) (fun e3 => bj_401 (by rw [b9 e, if_neg (fun t => e3 t.2)]) a10 b10 a11 b11 h12 hp))
    (fun e2 => bj_401 (by rw [b9 e, if_neg (fun t => e2 t.1)]) a10 b10 a11 b11 h12 hp)))
/-- what the answers are, by the flags of the law -/
def bj_G (x0 x2 x3 x6 x7 x8 x9 x10 x11 x12 x15 x16 x17 lv du ga : Int32) : Prop :=
  ((x0 < 0 ∨ 255 < x0) → x6 = -1000000) ∧ (¬ (x0 < 0 ∨ 255 < x0) → x6 = 0) ∧ (x7 = if lv = 0 then 0 else 4) ∧ (x15 = 0 → x8 = -1000000) ∧ (¬ x15 = 0 → x8 = lv) ∧
  (x16 = 0 → x9 = -1000000) ∧ (¬ x16 = 0 → x9 = if x2 = 0 ∧ x3 = 0 then lv else 0) ∧ (x17 = 0 → x10 = -1000000) ∧ (¬ x17 = 0 → x10 = du) ∧
  (x15 = 0 → x11 = -1000000) ∧ (¬ x15 = 0 → x11 = if lv = 0 then 0 else 1) ∧ x12 = 256 * ga
theorem bj_319 (h : bj_G x0 x2 x3 x6 x7 x8 x9 x10 x11 x12 x15 x16 x17 x20 x22 x23) (hp : post 1 ()) : wL_lawOf_319 post mc ms x0 x2 x3 x6 x7 x8 x9 x10 x11 x12 x15 x16 x17 x20 x22 x23 kc ks := by
  obtain ⟨a6, b6, h7, a8, b8, a9, b9, a10, b10, a11, b11, h12⟩ := h
  have k355 : ∀ {z0 z1 : Int32}, z1 = z0 → wL_lawOf_355 post mc ms x2 x3 x8 x9 x10 x11 x12 x15 x16 x17 x20 x22 x23 z0 z1 kc ks := fun h =>
    br_t h (br_c (fun e => bj_372 (a8 e) a9 b9 a10 b10 a11 b11 h12 hp) (fun e => bj_372 (b8 e) a9 b9 a10 b10 a11 b11 h12 hp))
  have k340 : ∀ {z0 z1 : Int32}, z1 = z0 → wL_lawOf_340 post mc ms x2 x3 x7 x8 x9 x10 x11 x12 x15 x16 x17 x20 x22 x23 z0 z1 kc ks := fun h =>
    br_t h (br_c (fun e => k355 (by rw [h7, if_pos e])) (fun e => k355 (by rw [h7, if_neg e])))
  exact br_c (fun e => k340 (a6 (Or.inl e))) (fun e => br_c (fun e2 => k340 (a6 (Or.inr e2))) (fun e2 => k340 (b6 (fun t => t.elim e e2))))
theorem bj_297 {lv du : Int32} (ez : z0 = du) (h : bj_G x0 x2 x3 x6 x7 x8 x9 x10 x11 x12 x15 x16 x17 lv du (bj_ga x13 du)) (hp : post 1 ()) : wL_lawOf_297 post mc ms x0 x2 x3 x6 x7 x8 x9 x10 x11 x12 x13 x15 x16 x17 lv z0 kc ks := by
  subst ez
  refine br_c (fun e => bj_319 ?_ hp) (fun e => bj_319 ?_ hp)
  · rw [bj_ga, if_pos e] at h
    exact h
  · rw [bj_ga, if_neg e] at h
    exact h
theorem bj_253 {lv : Int32} {q : Nat} (ez : z0 = lv) (h : bj_G x0 x2 x3 x6 x7 x8 x9 x10 x11 x12 x15 x16 x17 lv (bj_du lv q) (bj_ga x13 (bj_du lv q))) (hp : post 1 ()) : wL_lawOf_253 post mc ms x0 x2 x3 x6 x7 x8 x9 x10 x11 x12 x13 (nI q) x15 x16 x17 z0 kc ks := by
  subst ez
  refine nm_r (show ((z0 * nI q) + 8) >>> ((4 : Int32) &&& 31) = bj_bk z0 q from rfl) (br_c (fun e => br_c (fun e2 => bj_297 ?_ h hp) (fun e2 => bj_297 ?_ h hp)) (fun e => bj_297 ?_ h hp))
  · rw [bj_du, if_pos e, if_pos e2]
  · rw [bj_du, if_pos e, if_neg e2]
  · rw [bj_du, if_neg e]
theorem bj_218 {gr q : Nat} (hg : gr ≤ 255) (q1 : 1 ≤ q) (q8 : q ≤ 8) (ez : z0 = nI (bj_o gr)) (h : bj_G x0 x2 x3 x6 x7 x8 x9 x10 x11 x12 x15 x16 x17 (bj_lv gr q) (bj_du (bj_lv gr q) q) (bj_ga (nI gr) (bj_du (bj_lv gr q) q))) (hp : post 1 ()) :
    wL_lawOf_218 post mc ms x0 x2 x3 x6 x7 x8 x9 x10 x11 x12 (nI gr) (nI q) x15 x16 x17 z0 kc ks := by
  subst ez
  have ho : bj_o gr ≤ 128 := by
    unfold bj_o
    split <;> omega
  have e2 : (2 : Int32) * nI q = nI (2 * q) := pk_mul 2 q
  have es : ((2 * nI (bj_o gr)) * 16 + nI q) / (2 * nI q) = nI (bj_sz gr q) := by
    rw [e2, show (2 : Int32) * nI (bj_o gr) = nI (2 * bj_o gr) from pk_mul 2 _, show nI (2 * bj_o gr) * 16 = nI (2 * bj_o gr * 16) from pk_mul _ 16, nI_add]
    exact pk_div (by omega) (by omega) (by omega)
  refine ⟨by rw [e2]; exact nI_ne0 (by omega) (by omega), nm_r es (pk_le 128 gr (fun z => bj_253 ?_ h hp) (fun z => bj_253 ?_ h hp))⟩
  · rw [bj_lv, if_neg (by omega)]
  · rw [bj_lv, if_pos z]
theorem bj_193 {gr q : Nat} (hg : gr ≤ 255) (q1 : 1 ≤ q) (q8 : q ≤ 8) (h : bj_G x0 x2 x3 x6 x7 x8 x9 x10 x11 x12 x15 x16 x17 (bj_lv gr q) (bj_du (bj_lv gr q) q) (bj_ga (nI gr) (bj_du (bj_lv gr q) q))) (hp : post 1 ()) :
    wL_lawOf_193 post mc ms x0 x2 x3 x6 x7 x8 x9 x10 x11 x12 (nI gr) (nI q) x15 x16 x17 kc ks :=
  pk_le 128 gr (fun z => bj_218 hg q1 q8 ((pk_sub (b := 128) z).trans (by rw [bj_o, if_neg (by omega)])) h hp) (fun z => bj_218 hg q1 q8 ((pk_sub (a := 128) (by omega)).trans (by rw [bj_o, if_pos z])) h hp)
/-- a flag -/
def bj_F (x : Int32) (B : Prop) : Prop := (x = 0 ∧ B) ∨ (¬ x = 0 ∧ ¬ B)
theorem bj_166 (K : ∀ x17, bj_F x17 (x2 < 0 ∨ 15 < x2 ∨ x3 < 0 ∨ 15 < x3) → wL_lawOf_193 post mc ms x0 x2 x3 x6 x7 x8 x9 x10 x11 x12 x13 x14 x15 x16 x17 kc ks) : wL_lawOf_166 post mc ms x0 x2 x3 x6 x7 x8 x9 x10 x11 x12 x13 x14 x15 x16 kc ks :=
  br_c (fun h => K 0 (Or.inl ⟨rfl, Or.inl h⟩)) (fun h1 => br_c (fun h => K 0 (Or.inl ⟨rfl, Or.inr (Or.inl h)⟩)) (fun h2 => br_c (fun h => K 0 (Or.inl ⟨rfl, Or.inr (Or.inr (Or.inl h))⟩)) (fun h3 => br_c (fun h => K 0 (Or.inl ⟨rfl, Or.inr (Or.inr (Or.inr h))⟩)) (fun h4 => K 1 (Or.inr ⟨by decide, fun h => by rcases h with h | h | h | h <;> contradiction⟩)))))
theorem bj_134 (K : ∀ x16, bj_F x16 (x15 = 0 ∨ x2 < 0 ∨ 7 < x2 ∨ x3 < 0 ∨ 7 < x3) → wL_lawOf_166 post mc ms x0 x2 x3 x6 x7 x8 x9 x10 x11 x12 x13 x14 x15 x16 kc ks) : wL_lawOf_134 post mc ms x0 x2 x3 x6 x7 x8 x9 x10 x11 x12 x13 x14 x15 kc ks :=
  br_c (fun h => K 0 (Or.inl ⟨rfl, Or.inl h⟩)) (fun h0 => br_c (fun h => K 0 (Or.inl ⟨rfl, Or.inr (Or.inl h)⟩)) (fun h1 => br_c (fun h => K 0 (Or.inl ⟨rfl, Or.inr (Or.inr (Or.inl h))⟩)) (fun h2 => br_c (fun h => K 0 (Or.inl ⟨rfl, Or.inr (Or.inr (Or.inr (Or.inl h)))⟩)) (fun h3 => br_c (fun h => K 0 (Or.inl ⟨rfl, Or.inr (Or.inr (Or.inr (Or.inr h)))⟩)) (fun h4 => K 1 (Or.inr ⟨by decide, fun h => by rcases h with h | h | h | h | h <;> contradiction⟩))))))
theorem bj_116 (K : ∀ x15, bj_F x15 (x4 < 0 ∨ 3 < x4) → wL_lawOf_134 post mc ms x0 x2 x3 x6 x7 x8 x9 x10 x11 x12 x13 x14 x15 kc ks) : wL_lawOf_116 post mc ms x0 x2 x3 x4 x6 x7 x8 x9 x10 x11 x12 x13 x14 kc ks :=
  br_c (fun h => K 0 (Or.inl ⟨rfl, Or.inl h⟩)) (fun h1 => br_c (fun h => K 0 (Or.inl ⟨rfl, Or.inr h⟩)) (fun h2 => K 1 (Or.inr ⟨by decide, fun h => h.elim h1 h2⟩)))
theorem bj_98 (a : (x1 < 1 ∨ 8 < x1) → x14 = 1) (b : ¬ (x1 < 1 ∨ 8 < x1) → x14 = x1) (K : wL_lawOf_116 post mc ms x0 x2 x3 x4 x6 x7 x8 x9 x10 x11 x12 x13 x14 kc ks) : wL_lawOf_98 post mc ms x0 x1 x2 x3 x4 x6 x7 x8 x9 x10 x11 x12 x13 kc ks := by
  refine br_c (fun h => ?_) (fun h1 => br_c (fun h => ?_) (fun h2 => ?_))
  · rw [a (Or.inl h)] at K
    exact K
  · rw [a (Or.inr h)] at K
    exact K
  · rw [b (fun h => h.elim h1 h2)] at K
    exact K
theorem bj_top (a : (x0 < 0 ∨ 255 < x0) → x13 = 128) (b : ¬ (x0 < 0 ∨ 255 < x0) → x13 = x0) (K : wL_lawOf_98 post mc ms x0 x1 x2 x3 x4 x6 x7 x8 x9 x10 x11 x12 x13 kc ks) :
    ((x0 < 0 → wL_lawOf_95 post mc ms x0 x1 x2 x3 x4 x6 x7 x8 x9 x10 x11 x12 kc ks) ∧ (¬ x0 < 0 → ((255 < x0 → wL_lawOf_95 post mc ms x0 x1 x2 x3 x4 x6 x7 x8 x9 x10 x11 x12 kc ks) ∧ (¬ 255 < x0 → wL_lawOf_98 post mc ms x0 x1 x2 x3 x4 x6 x7 x8 x9 x10 x11 x12 x0 kc ks)))) := by
  refine br_c (fun h => ?_) (fun h1 => br_c (fun h => ?_) (fun h2 => ?_))
  · rw [a (Or.inl h)] at K
    exact K
  · rw [a (Or.inr h)] at K
    exact K
  · rw [b (fun h => h.elim h1 h2)] at K
    exact K
/-- all answers as they are due: the law answers 1 -/
theorem bj_end {gr q : Nat} (hg : gr ≤ 255) (q1 : 1 ≤ q) (q8 : q ≤ 8) (ag : (x0 < 0 ∨ 255 < x0) → x6 = -1000000 ∧ nI gr = 128) (bg : ¬ (x0 < 0 ∨ 255 < x0) → x6 = 0 ∧ nI gr = x0) (aq : (x1 < 1 ∨ 8 < x1) → nI q = 1) (bq : ¬ (x1 < 1 ∨ 8 < x1) → nI q = x1)
    (h7 : x7 = if bj_lv gr q = 0 then 0 else 4) (a8 : (x4 < 0 ∨ 3 < x4) → x8 = -1000000) (b8 : ¬ (x4 < 0 ∨ 3 < x4) → x8 = bj_lv gr q)
    (a9 : (x4 < 0 ∨ 3 < x4 ∨ x2 < 0 ∨ 7 < x2 ∨ x3 < 0 ∨ 7 < x3) → x9 = -1000000) (b9 : ¬ (x4 < 0 ∨ 3 < x4 ∨ x2 < 0 ∨ 7 < x2 ∨ x3 < 0 ∨ 7 < x3) → x9 = if x2 = 0 ∧ x3 = 0 then bj_lv gr q else 0)
    (a10 : (x2 < 0 ∨ 15 < x2 ∨ x3 < 0 ∨ 15 < x3) → x10 = -1000000) (b10 : ¬ (x2 < 0 ∨ 15 < x2 ∨ x3 < 0 ∨ 15 < x3) → x10 = bj_du (bj_lv gr q) q)
    (a11 : (x4 < 0 ∨ 3 < x4) → x11 = -1000000) (b11 : ¬ (x4 < 0 ∨ 3 < x4) → x11 = if bj_lv gr q = 0 then 0 else 1) (h12 : x12 = 256 * bj_ga (nI gr) (bj_du (bj_lv gr q) q)) (hp : post 1 ()) :
    ((x0 < 0 → wL_lawOf_95 post mc ms x0 x1 x2 x3 x4 x6 x7 x8 x9 x10 x11 x12 kc ks) ∧ (¬ x0 < 0 → ((255 < x0 → wL_lawOf_95 post mc ms x0 x1 x2 x3 x4 x6 x7 x8 x9 x10 x11 x12 kc ks) ∧ (¬ 255 < x0 → wL_lawOf_98 post mc ms x0 x1 x2 x3 x4 x6 x7 x8 x9 x10 x11 x12 x0 kc ks)))) := by
  refine bj_top (x13 := nI gr) (fun h => (ag h).2) (fun h => (bg h).2) (bj_98 (x14 := nI q) aq bq (bj_116 (fun x15 F15 => bj_134 (fun x16 F16 => bj_166 (fun x17 F17 => bj_193 hg q1 q8 ?_ hp)))))
  have t15 : ∀ {y : Int32} {A B : Prop}, bj_F y A → (y = 0 → A) ∧ (¬ y = 0 → ¬ A) := by
    intro y A B hF
    rcases hF with ⟨h1, h2⟩ | ⟨h1, h2⟩
    · exact ⟨fun _ => h2, fun h => absurd h1 h⟩
    · exact ⟨fun h => absurd h h1, fun _ => h2⟩
  obtain ⟨f15, g15⟩ := t15 (B := True) F15
  obtain ⟨f16, g16⟩ := t15 (B := True) F16
  obtain ⟨f17, g17⟩ := t15 (B := True) F17
  refine ⟨fun h => (ag h).1, fun h => (bg h).1, h7, fun h => a8 (f15 h), fun h => b8 (g15 h), fun h => a9 ?_, fun h => b9 ?_, fun h => a10 (f17 h), fun h => b10 (g17 h), fun h => a11 (f15 h), fun h => b11 (g15 h), h12⟩
  · rcases f16 h with h | h
    · rcases f15 h with h | h
      · exact Or.inl h
      · exact Or.inr (Or.inl h)
    · exact Or.inr (Or.inr h)
  · intro hb
    have hn := g16 h
    have h15 : ¬ x15 = 0 := fun e => hn (Or.inl e)
    rcases hb with h | h | h
    · exact g15 h15 (Or.inl h)
    · exact g15 h15 (Or.inr h)
    · exact hn (Or.inr h)
end
theorem bj_lawOf {post : Int32 → St0 → Prop} (hp : post 1 ()) (p0 p1 p2 p3 p4 : Int32) : wpL_lawOf post 18 4967 () p0 p1 p2 p3 p4 := by
  refine ⟨by omega, by omega, 17, 4939, by omega, by omega, ?_⟩
  refine bj_init (fun a1 a2 a3 a4 a5 a6 a7 a8 a9 a10 a11 a12 a13 a14 a15 a16 a17 hP hQ hO => ?_)
  refine bj_fillP hP (fun r6 g' s1 ag bg hP1 => ?_)
  refine bj_qualityP (fun rq q' aq bq => ?_)
  obtain ⟨gr, hgr, eg⟩ : ∃ gr : Nat, gr ≤ 255 ∧ g' = nI gr := by
    by_cases h : p0 < 0 ∨ 255 < p0
    · exact ⟨128, by omega, (ag h).2⟩
    · obtain ⟨j, hj, e⟩ := nI_of2 (M := 255) (n := 255) rfl (fun z => h (Or.inl z)) (Int32.not_lt.mp (fun z => h (Or.inr z)))
      exact ⟨j, hj, (bg h).2.trans e⟩
  obtain ⟨q, q1, q8, eq⟩ : ∃ q : Nat, 1 ≤ q ∧ q ≤ 8 ∧ q' = nI q := by
    by_cases h : p1 < 1 ∨ 8 < p1
    · exact ⟨1, by omega, by omega, aq h⟩
    · have h1 : ¬ p1 < 1 := fun z => h (Or.inl z)
      have h0 : ¬ p1 < 0 := by
        intro z
        apply h1
        rw [Int32.lt_iff_toInt_lt] at z ⊢
        have e1 : (0 : Int32).toInt = 0 := rfl
        have e2 : (1 : Int32).toInt = 1 := rfl
        omega
      obtain ⟨j, hj, e⟩ := nI_of2 (M := 8) (n := 8) rfl h0 (Int32.not_lt.mp (fun z => h (Or.inr z)))
      refine ⟨j, ?_, hj, (bq h).trans e⟩
      rcases Nat.lt_or_ge j 1 with z | z
      · exfalso
        apply h1
        rw [e]
        exact nI_lt (b := 1) z (by omega)
      · exact z
  subst eg eq
  obtain ⟨n, hZ⟩ := bj_lvZ hgr q1 q8
  obtain ⟨P, eP, P1, P2⟩ := bj_lvP hgr q1 q8
  have hdu := bj_duE eP P1 P2 q8
  obtain ⟨dn, hdn, edn⟩ : ∃ d : Nat, d ≤ 255 ∧ bj_du (bj_lv gr q) q = nI d := by
    rw [← hdu]
    exact bj_clN _
  refine bj_store q1 q8 hP1 hQ hO rfl (bj_lvD hgr q1 q8) hZ hdu (fun f5 f6 f7 f8 f9 f10 a4 a5 a6 a7 a8 a9 a10 a11 a12 a13 a14 a15 a16 a17 hl hd => ?_)
  refine bj_levelP hl (fun r8 k8 l8 => ?_)
  refine bj_levelP hl (fun r9 k9 l9 => ?_)
  refine bj_showQ hd (fun r10 k10 l10 => ?_)
  refine bj_weightP hl (fun r11 k11 l11 => ?_)
  refine bj_diff (ga := bj_ga (nI gr) (bj_du (bj_lv gr q) q)) hP1 hd (by rw [edn]; exact bj_gaE hgr hdn) ?_
  refine bj_end hgr q1 q8 ag bg aq bq ?_ (fun h => k8 ?_) (fun h => (l8 ?_).trans (if_pos ⟨rfl, rfl⟩)) k9 l9 k10 l10 k11 (fun h => (l11 h).trans ?_) rfl hp
  · by_cases e : bj_lv gr q = 0
    · rw [if_pos e, bj_c, if_pos e]
      rfl
    · rw [if_neg e, bj_c, if_neg e]
      rfl
  · rcases h with h | h
    · exact Or.inl h
    · exact Or.inr (Or.inl h)
  · intro hb
    have t0 : ¬ (0 : Int32) < 0 := by decide
    have t7 : ¬ (7 : Int32) < 0 := by decide
    rcases hb with h' | h' | h' | h' | h' | h'
    · exact h (Or.inl h')
    · exact h (Or.inr h')
    · exact t0 h'
    · exact t7 h'
    · exact t0 h'
    · exact t7 h'
  · by_cases e : bj_lv gr q = 0
    · rw [if_pos e, bj_c, if_pos e]
      rfl
    · rw [if_neg e, bj_c, if_neg e]
      rfl
end
section
/-! what is owed -/
theorem bj_cell {post : Int32 → Prop} {L : Nat} {xs : Nat → Int32} {k : Nat} (hL : L ≤ 5) (hk : k < 5) (H : ∀ r, post r) : wpL_cellAt post L xs () (nI k) :=
  pk_le L k (fun _ => H _) (fun h => ⟨pk_in k L h, H _⟩)
theorem i_vc (xs : Nat → Int32) (L : Nat) (hL : L ≤ 5) : wpL_law (fun r => r = 1) L xs := by
  unfold wpL_law
  refine bj_cell (k := 0) hL (by omega) (fun r1 => ?_)
  refine bj_cell (k := 1) hL (by omega) (fun r2 => ?_)
  refine bj_cell (k := 2) hL (by omega) (fun r3 => ?_)
  refine bj_cell (k := 3) hL (by omega) (fun r4 => ?_)
  refine bj_cell (k := 4) hL (by omega) (fun r5 => ?_)
  exact ⟨18, 4967, by omega, by omega, bj_lawOf rfl r1 r2 r3 r4 r5⟩
end
