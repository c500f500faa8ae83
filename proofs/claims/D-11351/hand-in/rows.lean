section
/-! ===== base: places, walk, localFrom ===== -/
theorem pr_at {a : Nat → Int32} {x v : Int32} (k : Nat) (h : a k = v) (hx : x = nI k := by rfl) (hk : k < 2 ^ 31 := by omega) : a x.toNatClampNeg = v := by
  subst hx
  rw [nI_clamp hk]
  exact h
theorem pr_atn {a : Nat → Int32} {x v w : Int32} (k : Nat) (h : a k = v) (hv : ¬ v = w) (hx : x = nI k := by rfl) (hk : k < 2 ^ 31 := by omega) : ¬ a x.toNatClampNeg = w := by
  rw [pr_at k h hx hk]
  exact hv
theorem pr_nn {m n : Nat} (h : m ≠ n) (hm : m < 2 ^ 31 := by omega) (hn : n < 2 ^ 31 := by omega) : ¬ nI m = nI n := fun e => h ((nI_eq hm hn).mp e)
theorem pr_b8 : ∀ n, n < 128 → (nI n).toInt8.toInt32 = nI n := by decide +kernel
theorem pr_nar {n : Nat} (h : n < 128) : vp_nar .byte (nI n) = nI n := by
  rw [vp_nar_byte]
  exact pr_b8 n h
/-- the protocol's terms, as copied: 0 again, 1 message, 2 end, 3 choose, 4 loop -/
def pr_St (P Q R : Nat) (l sz : Int32) (a1 a2 a3 a4 a5 a6 a7 : Nat → Int32) : Prop :=
  sz = nI 5 ∧ a1 0 = 4 ∧ a1 1 = 1 ∧ a1 2 = 0 ∧ a1 3 = 2 ∧ a1 4 = 3 ∧ a2 1 = nI Q ∧ a2 3 = nI P ∧ a3 1 = nI R ∧ a4 1 = l ∧ a5 1 = nI 0 ∧ a5 3 = nI 1 ∧ a5 4 = nI 3 ∧ a6 3 = nI 2 ∧ a7 0 = nI 4
section
variable {sz md hg sd : Int32} {a1 a2 a3 a4 a5 a6 a7 a8 a9 a10 a11 a12 a13 a14 a15 a16 a17 a18 a19 a20 : Nat → Int32} {P Q R l : Nat} {post : Int32 → Prop}
theorem pr_wk_s {n k i : Nat} (hk : k < 40) (hi : i < 40) (h : a1 k < 3) (hp : post (nI k)) : wX_walk_4 post sz md hg sd a1 a2 a3 a4 a5 a6 a7 a8 a9 a10 a11 a12 a13 a14 a15 a16 a17 a18 a19 a20 (n + 1) (nI k) (nI i) :=
  pk_le 40 i (fun _ => hp) (fun _ => ⟨pk_in k 40 hk, br_t (by rw [nI_clamp (show k < 2 ^ 31 by omega)]; exact h) hp⟩)
theorem pr_wk_l {n k j i : Nat} (hk : k < 40) (hi : i < 40) (h : a1 k = 3) (h5 : a5 k = nI j) (hw : wX_walk_4 post sz md hg sd a1 a2 a3 a4 a5 a6 a7 a8 a9 a10 a11 a12 a13 a14 a15 a16 a17 a18 a19 a20 n (nI j) (nI (i + 1))) : wX_walk_4 post sz md hg sd a1 a2 a3 a4 a5 a6 a7 a8 a9 a10 a11 a12 a13 a14 a15 a16 a17 a18 a19 a20 (n + 1) (nI k) (nI i) :=
  pk_le 40 i (fun z => absurd z (by omega)) (fun _ => ⟨pk_in k 40 hk, br_f (by rw [pr_at k h]; decide) ⟨pk_in k 40 hk, br_t (pr_at k h) ⟨pk_in k 40 hk, nm_r (pr_at k h5) (nm_r (nI_1 i) hw)⟩⟩⟩)
theorem pr_wk_a {n k j i : Nat} (hk : k < 20) (hi : i < 40) (h : a1 k = 4) (h7 : a7 k = nI j) (hw : wX_walk_4 post sz md hg sd a1 a2 a3 a4 a5 a6 a7 a8 a9 a10 a11 a12 a13 a14 a15 a16 a17 a18 a19 a20 n (nI j) (nI (i + 1))) : wX_walk_4 post sz md hg sd a1 a2 a3 a4 a5 a6 a7 a8 a9 a10 a11 a12 a13 a14 a15 a16 a17 a18 a19 a20 (n + 1) (nI k) (nI i) :=
  pk_le 40 i (fun z => absurd z (by omega)) (fun _ => ⟨pk_in k 40 (by omega), br_f (by rw [pr_at k h]; decide) ⟨pk_in k 40 (by omega), br_f (pr_atn k h (by decide)) ⟨pk_in k 20 hk, nm_r (pr_at k h7) (nm_r (nI_1 i) hw)⟩⟩⟩)
theorem pr_w1 (hS : pr_St P Q R (nI l) sz a1 a2 a3 a4 a5 a6 a7) (hp : post (nI 1)) : wpX_walk post (sz, md, hg, sd, a1, a2, a3, a4, a5, a6, a7, a8, a9, a10, a11, a12, a13, a14, a15, a16, a17, a18, a19, a20) (nI 1) := by
  obtain ⟨_, k0, k1, k2, k3, k4, o1, o3, q1, b1, g1, g3, g4, h3, t0⟩ := hS
  exact ⟨1, pr_wk_s (k := 1) (i := 0) (by omega) (by omega) (by rw [k1]; decide) hp⟩
theorem pr_w2 (hS : pr_St P Q R (nI l) sz a1 a2 a3 a4 a5 a6 a7) (hp : post (nI 2)) : wpX_walk post (sz, md, hg, sd, a1, a2, a3, a4, a5, a6, a7, a8, a9, a10, a11, a12, a13, a14, a15, a16, a17, a18, a19, a20) (nI 2) := by
  obtain ⟨_, k0, k1, k2, k3, k4, o1, o3, q1, b1, g1, g3, g4, h3, t0⟩ := hS
  exact ⟨1, pr_wk_s (k := 2) (i := 0) (by omega) (by omega) (by rw [k2]; decide) hp⟩
theorem pr_w4 (hS : pr_St P Q R (nI l) sz a1 a2 a3 a4 a5 a6 a7) (hp : post (nI 3)) : wpX_walk post (sz, md, hg, sd, a1, a2, a3, a4, a5, a6, a7, a8, a9, a10, a11, a12, a13, a14, a15, a16, a17, a18, a19, a20) (nI 4) := by
  obtain ⟨_, k0, k1, k2, k3, k4, o1, o3, q1, b1, g1, g3, g4, h3, t0⟩ := hS
  exact ⟨2, pr_wk_l (k := 4) (i := 0) (by omega) (by omega) k4 g4 (pr_wk_s (k := 3) (i := 1) (by omega) (by omega) (by rw [k3]; decide) hp)⟩
theorem pr_w0 (hS : pr_St P Q R (nI l) sz a1 a2 a3 a4 a5 a6 a7) (hp : post (nI 3)) : wpX_walk post (sz, md, hg, sd, a1, a2, a3, a4, a5, a6, a7, a8, a9, a10, a11, a12, a13, a14, a15, a16, a17, a18, a19, a20) (nI 0) := by
  obtain ⟨_, k0, k1, k2, k3, k4, o1, o3, q1, b1, g1, g3, g4, h3, t0⟩ := hS
  exact ⟨3, pr_wk_a (k := 0) (i := 0) (by omega) (by omega) k0 t0 (pr_wk_l (k := 4) (i := 1) (by omega) (by omega) k4 g4 (pr_wk_s (k := 3) (i := 2) (by omega) (by omega) (by rw [k3]; decide) hp))⟩
theorem pr_lc {n i ρ : Nat} (hi : i < 100) (h : a1 3 = 2) (hp : post (nI 3)) : wX_localFrom_9 post (nI ρ) sz md hg sd a1 a2 a3 a4 a5 a6 a7 a8 a9 a10 a11 a12 a13 a14 a15 a16 a17 a18 a19 a20 (n + 1) (nI 3) (nI i) := by
  have h65 : wX_localFrom_65 post (nI 3) sz md hg sd a1 a2 a3 a4 a5 a6 a7 a8 a9 a10 a11 a12 a13 a14 a15 a16 a17 a18 a19 a20 := ⟨pk_in 3 40 (by omega), br_t (pr_at 3 h) hp⟩
  exact pk_lt 20 i (fun _ => h65) (fun _ => ⟨pk_in 3 40 (by omega), br_f (pr_atn 3 h (by decide)) h65⟩)
theorem pr_le {n i k ρ : Nat} (hk : k < 40) (hi : i < 100) (h : a1 k = 0) (hp : post (-1)) : wX_localFrom_9 post (nI ρ) sz md hg sd a1 a2 a3 a4 a5 a6 a7 a8 a9 a10 a11 a12 a13 a14 a15 a16 a17 a18 a19 a20 (n + 1) (nI k) (nI i) := by
  have h65 : wX_localFrom_65 post (nI k) sz md hg sd a1 a2 a3 a4 a5 a6 a7 a8 a9 a10 a11 a12 a13 a14 a15 a16 a17 a18 a19 a20 := ⟨pk_in k 40 hk, br_f (pr_atn k h (by decide)) ⟨pk_in k 40 hk, br_t (pr_at k h) hp⟩⟩
  exact pk_lt 20 i (fun _ => h65) (fun _ => ⟨pk_in k 40 hk, br_f (pr_atn k h (by decide)) h65⟩)
theorem pr_lf4 {ρ : Nat} (hS : pr_St P Q R (nI l) sz a1 a2 a3 a4 a5 a6 a7) (hp : post (nI 3)) : wpX_localFrom post (sz, md, hg, sd, a1, a2, a3, a4, a5, a6, a7, a8, a9, a10, a11, a12, a13, a14, a15, a16, a17, a18, a19, a20) (nI ρ) (nI 4) := by
  unfold wpX_localFrom
  dsimp only
  exact pr_w4 hS ⟨1, pr_lc (i := 0) (by omega) hS.2.2.2.2.1 hp⟩
theorem pr_lf0 {ρ : Nat} (hS : pr_St P Q R (nI l) sz a1 a2 a3 a4 a5 a6 a7) (hp : post (nI 3)) : wpX_localFrom post (sz, md, hg, sd, a1, a2, a3, a4, a5, a6, a7, a8, a9, a10, a11, a12, a13, a14, a15, a16, a17, a18, a19, a20) (nI ρ) (nI 0) := by
  unfold wpX_localFrom
  dsimp only
  exact pr_w0 hS ⟨1, pr_lc (i := 0) (by omega) hS.2.2.2.2.1 hp⟩
theorem pr_lf2 {ρ : Nat} (hS : pr_St P Q R (nI l) sz a1 a2 a3 a4 a5 a6 a7) (hp : post (-1)) : wpX_localFrom post (sz, md, hg, sd, a1, a2, a3, a4, a5, a6, a7, a8, a9, a10, a11, a12, a13, a14, a15, a16, a17, a18, a19, a20) (nI ρ) (nI 2) := by
  unfold wpX_localFrom
  dsimp only
  exact pr_w2 hS ⟨1, pr_le (k := 2) (i := 0) (by omega) (by omega) hS.2.2.2.1 hp⟩
theorem pr_lf1Q (hS : pr_St P Q R (nI l) sz a1 a2 a3 a4 a5 a6 a7) (hp : post (nI 1)) : wpX_localFrom post (sz, md, hg, sd, a1, a2, a3, a4, a5, a6, a7, a8, a9, a10, a11, a12, a13, a14, a15, a16, a17, a18, a19, a20) (nI Q) (nI 1) := by
  unfold wpX_localFrom
  dsimp only
  refine pr_w1 hS ⟨1, ?_⟩
  obtain ⟨_, k0, k1, k2, k3, k4, o1, o3, q1, b1, g1, g3, g4, h3, t0⟩ := hS
  exact pk_lt 20 0 (fun z => absurd z (by omega)) (fun _ => ⟨pk_in 1 40 (by omega), br_t (pr_at 1 k1) ⟨pk_in 1 40 (by omega), br_t (pr_at 1 o1) hp⟩⟩)
theorem pr_lf1R (hR : (P = 0 ∧ Q = 1 ∧ R = 2) ∨ (P = 1 ∧ Q = 0 ∧ R = 2) ∨ (P = 2 ∧ Q = 0 ∧ R = 1)) (hS : pr_St P Q R (nI l) sz a1 a2 a3 a4 a5 a6 a7) (hp : post (nI 1)) : wpX_localFrom post (sz, md, hg, sd, a1, a2, a3, a4, a5, a6, a7, a8, a9, a10, a11, a12, a13, a14, a15, a16, a17, a18, a19, a20) (nI R) (nI 1) := by
  unfold wpX_localFrom
  dsimp only
  refine pr_w1 hS ⟨1, ?_⟩
  obtain ⟨_, k0, k1, k2, k3, k4, o1, o3, q1, b1, g1, g3, g4, h3, t0⟩ := hS
  exact pk_lt 20 0 (fun z => absurd z (by omega)) (fun _ => ⟨pk_in 1 40 (by omega), br_t (pr_at 1 k1) ⟨pk_in 1 40 (by omega), br_f (pr_atn 1 o1 (pr_nn (by omega))) ⟨pk_in 1 40 (by omega), br_t (pr_at 1 q1) hp⟩⟩⟩)
theorem pr_lf1P (hR : (P = 0 ∧ Q = 1 ∧ R = 2) ∨ (P = 1 ∧ Q = 0 ∧ R = 2) ∨ (P = 2 ∧ Q = 0 ∧ R = 1)) (hS : pr_St P Q R (nI l) sz a1 a2 a3 a4 a5 a6 a7) (hp : post (nI 3)) : wpX_localFrom post (sz, md, hg, sd, a1, a2, a3, a4, a5, a6, a7, a8, a9, a10, a11, a12, a13, a14, a15, a16, a17, a18, a19, a20) (nI P) (nI 1) := by
  unfold wpX_localFrom
  dsimp only
  refine pr_w1 hS ⟨2, ?_⟩
  have hS' := hS
  obtain ⟨_, k0, k1, k2, k3, k4, o1, o3, q1, b1, g1, g3, g4, h3, t0⟩ := hS
  refine pk_lt 20 0 (fun z => absurd z (by omega)) (fun _ => ⟨pk_in 1 40 (by omega), br_t (pr_at 1 k1) ⟨pk_in 1 40 (by omega), br_f (pr_atn 1 o1 (pr_nn (by omega))) ⟨pk_in 1 40 (by omega), br_f (pr_atn 1 q1 (pr_nn (by omega))) ⟨pk_in 1 40 (by omega), ?_⟩⟩⟩⟩)
  rw [pr_at (a := a5) (x := nI 1) 1 g1]
  exact pr_w0 hS' (nm_r (nI_1 0) (pr_lc (i := 1) (by omega) k3 hp))
/-- where a role is behind the choose, the pick being j -/
theorem pr_lfP {j : Nat} (hR : (P = 0 ∧ Q = 1 ∧ R = 2) ∨ (P = 1 ∧ Q = 0 ∧ R = 2) ∨ (P = 2 ∧ Q = 0 ∧ R = 1)) (hS : pr_St P Q R (nI l) sz a1 a2 a3 a4 a5 a6 a7) (hj : j < 2) (hp : post (if j = 0 then nI 3 else -1)) : wpX_localFrom post (sz, md, hg, sd, a1, a2, a3, a4, a5, a6, a7, a8, a9, a10, a11, a12, a13, a14, a15, a16, a17, a18, a19, a20) (nI P) (nI (1 + j)) := by
  match j, hj, hp with
  | 0, _, hp => exact pr_lf1P hR hS hp
  | 1, _, hp => exact pr_lf2 hS hp
theorem pr_lfX {j ρ : Nat} (hR : (P = 0 ∧ Q = 1 ∧ R = 2) ∨ (P = 1 ∧ Q = 0 ∧ R = 2) ∨ (P = 2 ∧ Q = 0 ∧ R = 1)) (hS : pr_St P Q R (nI l) sz a1 a2 a3 a4 a5 a6 a7) (hρ : ρ < 3) (hne : ρ ≠ P) (hj : j < 2) (hp : post (if j = 0 then nI 1 else -1)) : wpX_localFrom post (sz, md, hg, sd, a1, a2, a3, a4, a5, a6, a7, a8, a9, a10, a11, a12, a13, a14, a15, a16, a17, a18, a19, a20) (nI ρ) (nI (1 + j)) := by
  match j, hj, hp with
  | 0, _, hp =>
    by_cases e : ρ = Q
    · rw [e]
      exact pr_lf1Q hS hp
    · rw [show ρ = R by omega]
      exact pr_lf1R hR hS hp
  | 1, _, hp => exact pr_lf2 hS hp
end
end
section
/-! ===== roles and looking ===== -/
/-- queue k is empty -/
def pr_q0 (k : Nat) (a16 a17 : Nat → Int32) : Prop := ∃ h : Nat, h < 4 ∧ a16 k = nI h ∧ a17 k = nI 0
/-- queue k holds one message, label x, value v -/
def pr_q1 (k : Nat) (x v : Int32) (a16 a17 a18 a19 : Nat → Int32) : Prop := ∃ h : Nat, h < 4 ∧ a16 k = nI h ∧ a17 k = nI 1 ∧ a18 (4 * k + h) = x ∧ a19 (4 * k + h) = v
section
variable {sz md hg sd : Int32} {a1 a2 a3 a4 a5 a6 a7 a8 a9 a10 a11 a12 a13 a14 a15 a16 a17 a18 a19 a20 : Nat → Int32} {P Q R l : Nat} {post : Int32 → Prop} {ρ σ k c : Nat}
theorem pr_bad (hρ : ρ < 3) (hp : post 0) : wpX_badRole post (sz, md, hg, sd, a1, a2, a3, a4, a5, a6, a7, a8, a9, a10, a11, a12, a13, a14, a15, a16, a17, a18, a19, a20) (nI ρ) :=
  pk_lt ρ 0 (fun z => absurd z (by omega)) (fun _ => pk_lt ρ 3 (fun _ => hp) (fun z => absurd z (by omega)))
theorem pr_qo {x y : Int32} (ρ σ : Nat) (hp : post (nI (3 * ρ + σ))) (hx : x = nI ρ := by rfl) (hy : y = nI σ := by rfl) : wpX_queueOf post (sz, md, hg, sd, a1, a2, a3, a4, a5, a6, a7, a8, a9, a10, a11, a12, a13, a14, a15, a16, a17, a18, a19, a20) x y := by
  subst hx hy
  rw [← nI_add, ← pk_mul] at hp
  exact hp
theorem pr_sends_y (hρ : ρ < 3) (h11 : a11 ρ = nI k) (hk : k < 40) (h2 : a2 k = nI ρ) (hp : post 1) : wpX_sends post (sz, md, hg, sd, a1, a2, a3, a4, a5, a6, a7, a8, a9, a10, a11, a12, a13, a14, a15, a16, a17, a18, a19, a20) (nI ρ) :=
  ⟨pk_in ρ 3 hρ, nm_r (pr_at ρ h11) (br_f (nI_pos (by omega)) ⟨pk_in k 40 hk, br_t (pr_at k h2) hp⟩)⟩
theorem pr_sends_n (hρ : ρ < 3) (hσ : σ < 3) (hne : σ ≠ ρ) (h11 : a11 ρ = nI k) (hk : k < 40) (h2 : a2 k = nI σ) (hp : post 0) : wpX_sends post (sz, md, hg, sd, a1, a2, a3, a4, a5, a6, a7, a8, a9, a10, a11, a12, a13, a14, a15, a16, a17, a18, a19, a20) (nI ρ) :=
  ⟨pk_in ρ 3 hρ, nm_r (pr_at ρ h11) (br_f (nI_pos (by omega)) ⟨pk_in k 40 hk, br_f (pr_atn k h2 (pr_nn hne)) hp⟩)⟩
theorem pr_sends_o (hρ : ρ < 3) (h11 : a11 ρ = -1) (hp : post 0) : wpX_sends post (sz, md, hg, sd, a1, a2, a3, a4, a5, a6, a7, a8, a9, a10, a11, a12, a13, a14, a15, a16, a17, a18, a19, a20) (nI ρ) :=
  ⟨pk_in ρ 3 hρ, nm_r (pr_at ρ h11) (br_t (by decide) hp)⟩
/-! to whom a role sends, from whom it receives -/
theorem pr_po_r (hρ : ρ < 3) (hσ : σ < 3) (hne : σ ≠ ρ) (h11 : a11 ρ = nI k) (hk : k < 40) (h2 : a2 k = nI σ) (hp : post (nI σ)) : wpX_partnerOf post (sz, md, hg, sd, a1, a2, a3, a4, a5, a6, a7, a8, a9, a10, a11, a12, a13, a14, a15, a16, a17, a18, a19, a20) (nI ρ) := by
  refine ⟨pk_in ρ 3 hρ, nm_r (pr_at ρ h11) ⟨pk_in k 40 hk, br_f (pr_atn k h2 (pr_nn hne)) ⟨pk_in k 40 hk, ?_⟩⟩⟩
  rw [pr_at (a := a2) (x := nI k) k h2]
  exact hp
theorem pr_po_m (hρ : ρ < 3) (h11 : a11 ρ = nI k) (hk : k < 40) (h2 : a2 k = nI ρ) (h1 : a1 k = 1) (h3 : a3 k = nI σ) (hp : post (nI σ)) : wpX_partnerOf post (sz, md, hg, sd, a1, a2, a3, a4, a5, a6, a7, a8, a9, a10, a11, a12, a13, a14, a15, a16, a17, a18, a19, a20) (nI ρ) := by
  refine ⟨pk_in ρ 3 hρ, nm_r (pr_at ρ h11) ⟨pk_in k 40 hk, br_t (pr_at k h2) ⟨pk_in k 40 hk, br_t (pr_at k h1) ⟨pk_in k 40 hk, ?_⟩⟩⟩⟩
  rw [pr_at (a := a3) (x := nI k) k h3]
  exact hp
theorem pr_po_0 (hR : (P = 0 ∧ Q = 1 ∧ R = 2) ∨ (P = 1 ∧ Q = 0 ∧ R = 2) ∨ (P = 2 ∧ Q = 0 ∧ R = 1)) (hS : pr_St P Q R (nI l) sz a1 a2 a3 a4 a5 a6 a7) (h11 : a11 P = nI 3) (h12 : a12 P = 0) (hp : post (nI Q)) : wpX_partnerOf post (sz, md, hg, sd, a1, a2, a3, a4, a5, a6, a7, a8, a9, a10, a11, a12, a13, a14, a15, a16, a17, a18, a19, a20) (nI P) := by
  obtain ⟨_, k0, k1, k2, k3, k4, o1, o3, q1, b1, g1, g3, g4, h3, t0⟩ := hS
  refine ⟨pk_in P 3 (by omega), nm_r (pr_at P h11) ⟨pk_in 3 40 (by omega), br_t (pr_at 3 o3) ⟨pk_in 3 40 (by omega), br_f (pr_atn 3 k3 (by decide)) ⟨pk_in P 3 (by omega), br_t (pr_at P h12) ?_⟩⟩⟩⟩
  refine pk_eq P 0 (fun z => ?_) (fun z => ?_)
  · rw [show Q = 1 by omega] at hp
    exact hp
  · rw [show Q = 0 by omega] at hp
    exact hp
theorem pr_po_1 (hR : (P = 0 ∧ Q = 1 ∧ R = 2) ∨ (P = 1 ∧ Q = 0 ∧ R = 2) ∨ (P = 2 ∧ Q = 0 ∧ R = 1)) (hS : pr_St P Q R (nI l) sz a1 a2 a3 a4 a5 a6 a7) (h11 : a11 P = nI 3) (h12 : a12 P = 1) (hp : post (nI R)) : wpX_partnerOf post (sz, md, hg, sd, a1, a2, a3, a4, a5, a6, a7, a8, a9, a10, a11, a12, a13, a14, a15, a16, a17, a18, a19, a20) (nI P) := by
  obtain ⟨_, k0, k1, k2, k3, k4, o1, o3, q1, b1, g1, g3, g4, h3, t0⟩ := hS
  refine ⟨pk_in P 3 (by omega), nm_r (pr_at P h11) ⟨pk_in 3 40 (by omega), br_t (pr_at 3 o3) ⟨pk_in 3 40 (by omega), br_f (pr_atn 3 k3 (by decide)) ⟨pk_in P 3 (by omega), br_f (pr_atn P h12 (by decide)) ?_⟩⟩⟩⟩
  refine pk_eq P 2 (fun z => ?_) (fun z => ?_)
  · rw [show R = 1 by omega] at hp
    exact hp
  · rw [show R = 2 by omega] at hp
    exact hp
/-! state -/
theorem pr_state_o (hρ : ρ < 3) (h11 : a11 ρ = -1) (hp : post 0) : wpX_state post (sz, md, hg, sd, a1, a2, a3, a4, a5, a6, a7, a8, a9, a10, a11, a12, a13, a14, a15, a16, a17, a18, a19, a20) (nI ρ) := by
  unfold wpX_state
  dsimp only
  exact pr_bad hρ (br_t rfl ⟨pk_in ρ 3 hρ, br_f (by rw [pr_at ρ h11]; decide) hp⟩)
theorem pr_state_s (hρ : ρ < 3) (hσ : σ < 3) (h11 : a11 ρ = nI k) (hk : k < 40) (h2 : a2 k = nI ρ) (hc : c < 4) (h17 : a17 (3 * ρ + σ) = nI c) (hpo : ∀ ψ : Int32 → Prop, ψ (nI σ) → wpX_partnerOf ψ (sz, md, hg, sd, a1, a2, a3, a4, a5, a6, a7, a8, a9, a10, a11, a12, a13, a14, a15, a16, a17, a18, a19, a20) (nI ρ)) (hp : post 1) : wpX_state post (sz, md, hg, sd, a1, a2, a3, a4, a5, a6, a7, a8, a9, a10, a11, a12, a13, a14, a15, a16, a17, a18, a19, a20) (nI ρ) := by
  unfold wpX_state
  dsimp only
  refine pr_bad hρ (br_t rfl ⟨pk_in ρ 3 hρ, br_t (by rw [pr_at ρ h11]; exact nI_pos' (by omega)) (hpo _ (pr_sends_y hρ h11 hk h2 (br_f (by decide) (pr_qo ρ σ ⟨pk_in (3 * ρ + σ) 9 (by omega), br_f ?_ hp⟩))))⟩)
  rw [pr_at (a := a17) (x := nI (3 * ρ + σ)) (3 * ρ + σ) h17]
  exact nI_ge hc (by decide)
theorem pr_state_w (hρ : ρ < 3) (hσ : σ < 3) (hne : σ ≠ ρ) (h11 : a11 ρ = nI k) (hk : k < 40) (h2 : a2 k = nI σ) (h17 : a17 (3 * σ + ρ) = nI 0) (hp : post 4) : wpX_state post (sz, md, hg, sd, a1, a2, a3, a4, a5, a6, a7, a8, a9, a10, a11, a12, a13, a14, a15, a16, a17, a18, a19, a20) (nI ρ) := by
  unfold wpX_state
  dsimp only
  refine pr_bad hρ (br_t rfl ⟨pk_in ρ 3 hρ, br_t (by rw [pr_at ρ h11]; exact nI_pos' (by omega)) (pr_po_r hρ hσ hne h11 hk h2 (pr_sends_n hρ hσ hne h11 hk h2 (br_t rfl (pr_qo σ ρ ⟨pk_in (3 * σ + ρ) 9 (by omega), br_t ?_ hp⟩))))⟩)
  rw [pr_at (a := a17) (x := nI (3 * σ + ρ)) (3 * σ + ρ) h17]
  decide
theorem pr_state_r (hρ : ρ < 3) (hσ : σ < 3) (hne : σ ≠ ρ) (h11 : a11 ρ = nI k) (hk : k < 40) (h2 : a2 k = nI σ) (h17 : a17 (3 * σ + ρ) = nI 1) (hp : post 3) : wpX_state post (sz, md, hg, sd, a1, a2, a3, a4, a5, a6, a7, a8, a9, a10, a11, a12, a13, a14, a15, a16, a17, a18, a19, a20) (nI ρ) := by
  unfold wpX_state
  dsimp only
  refine pr_bad hρ (br_t rfl ⟨pk_in ρ 3 hρ, br_t (by rw [pr_at ρ h11]; exact nI_pos' (by omega)) (pr_po_r hρ hσ hne h11 hk h2 (pr_sends_n hρ hσ hne h11 hk h2 (br_t rfl (pr_qo σ ρ ⟨pk_in (3 * σ + ρ) 9 (by omega), br_f ?_ hp⟩))))⟩)
  rw [pr_at (a := a17) (x := nI (3 * σ + ρ)) (3 * σ + ρ) h17]
  decide
/-! partner, onWay, got -/
theorem pr_partner_o (hρ : ρ < 3) (h11 : a11 ρ = -1) (hp : post (-4)) : wpX_partner post (sz, md, hg, sd, a1, a2, a3, a4, a5, a6, a7, a8, a9, a10, a11, a12, a13, a14, a15, a16, a17, a18, a19, a20) (nI ρ) := by
  unfold wpX_partner
  dsimp only
  exact pr_bad hρ (br_t rfl ⟨pk_in ρ 3 hρ, br_f (by rw [pr_at ρ h11]; decide) hp⟩)
theorem pr_partner (hρ : ρ < 3) (h11 : a11 ρ = nI k) (hk : k < 40) (hpo : ∀ ψ : Int32 → Prop, ψ (nI σ) → wpX_partnerOf ψ (sz, md, hg, sd, a1, a2, a3, a4, a5, a6, a7, a8, a9, a10, a11, a12, a13, a14, a15, a16, a17, a18, a19, a20) (nI ρ)) (hp : post (nI σ)) : wpX_partner post (sz, md, hg, sd, a1, a2, a3, a4, a5, a6, a7, a8, a9, a10, a11, a12, a13, a14, a15, a16, a17, a18, a19, a20) (nI ρ) := by
  unfold wpX_partner
  dsimp only
  exact pr_bad hρ (br_t rfl ⟨pk_in ρ 3 hρ, br_t (by rw [pr_at ρ h11]; exact nI_pos' (by omega)) (hpo _ hp)⟩)
theorem pr_way (hρ : ρ < 3) (hσ : σ < 3) {x : Int32} (h17 : a17 (3 * ρ + σ) = x) (hp : post x) : wpX_onWay post (sz, md, hg, sd, a1, a2, a3, a4, a5, a6, a7, a8, a9, a10, a11, a12, a13, a14, a15, a16, a17, a18, a19, a20) (nI ρ) (nI σ) := by
  have e : (3 : Int32) * nI ρ + nI σ = nI (3 * ρ + σ) := by
    rw [← nI_add, ← pk_mul]
    rfl
  unfold wpX_onWay
  dsimp only
  refine pr_bad hρ (br_t rfl (pr_bad hσ (br_t rfl ⟨pk_in (3 * ρ + σ) 9 (by omega) e, ?_⟩)))
  rw [pr_at (a := a17) (3 * ρ + σ) h17 e]
  exact hp
theorem pr_got (hρ : ρ < 3) {x : Int32} (h15 : a15 ρ = x) (hp : post x) : wpX_got post (sz, md, hg, sd, a1, a2, a3, a4, a5, a6, a7, a8, a9, a10, a11, a12, a13, a14, a15, a16, a17, a18, a19, a20) (nI ρ) := by
  unfold wpX_got
  dsimp only
  refine pr_bad hρ (br_t rfl ⟨pk_in ρ 3 hρ, ?_⟩)
  rw [pr_at (a := a15) (x := nI ρ) ρ h15]
  exact hp
end
end
section
/-! ===== queues, sending, receiving ===== -/
section
variable {sz md hg sd : Int32} {a1 a2 a3 a4 a5 a6 a7 a8 a9 a10 a11 a12 a13 a14 a15 a16 a17 a18 a19 a20 : Nat → Int32} {P Q R l : Nat} {v : Int32} {ρ k c j : Nat}
theorem pr_put {post : St2 → Prop} {x : Int32} (hk : k < 9) (hq : pr_q0 k a16 a17) (hx : x.toInt8.toInt32 = x)
    (hp : ∀ b17 b18 b19 : Nat → Int32, pr_q1 k x v a16 b17 b18 b19 → (∀ i, i ≠ k → pr_q0 i a16 a17 → pr_q0 i a16 b17) → (∀ i y w, i ≠ k → pr_q1 i y w a16 a17 a18 a19 → pr_q1 i y w a16 b17 b18 b19) → post (sz, md, hg, sd + 1, a1, a2, a3, a4, a5, a6, a7, a8, a9, a10, a11, a12, a13, a14, a15, a16, b17, b18, b19, a20)) :
    wpX_put post (sz, md, hg, sd, a1, a2, a3, a4, a5, a6, a7, a8, a9, a10, a11, a12, a13, a14, a15, a16, a17, a18, a19, a20) (nI k) x v := by
  obtain ⟨h, hh, e16, e17⟩ := hq
  have ex : (4 : Int32) * nI k + ((a16 (nI k).toNatClampNeg + a17 (nI k).toNatClampNeg) &&& 3) = nI (4 * k + h) := by
    rw [pr_at (a := a16) (x := nI k) k e16, pr_at (a := a17) (x := nI k) k e17, nI_add, pk_andN (show h + 0 < 2 ^ 32 by omega) 2 (by decide), Nat.mod_eq_of_lt (show h + 0 < 2 ^ 2 by omega), ← nI_add (4 * k), ← pk_mul]
    rfl
  refine ⟨pk_in k 9 hk, pk_in k 9 hk, nm_r ex ⟨pk_in (4 * k + h) 36 (by omega), nm_e ⟨pk_in (4 * k + h) 36 (by omega), nm_e ⟨pk_in k 9 hk, pk_in k 9 hk, nm_e (nm_e ?_)⟩⟩⟩⟩
  rw [nI_clamp (show k < 2 ^ 31 by omega), nI_clamp (show 4 * k + h < 2 ^ 31 by omega), e17, hx]
  refine hp _ _ _ ⟨h, hh, e16, ?_, pk_us, pk_us⟩ ?_ ?_
  · rw [pk_us]
    decide
  · intro i hi ⟨h', hh', f16, f17⟩
    exact ⟨h', hh', f16, by rw [pk_un hi]; exact f17⟩
  · intro i y w hi ⟨h', hh', f16, f17, f18, f19⟩
    have hn : 4 * i + h' ≠ 4 * k + h := by omega
    exact ⟨h', hh', f16, by rw [pk_un hi]; exact f17, by rw [pk_un hn]; exact f18, by rw [pk_un hn]; exact f19⟩
theorem pr_take {post : Int32 → St2 → Prop} {x : Int32} (hk : k < 9) (hρ : ρ < 3) (hq : pr_q1 k x v a16 a17 a18 a19)
    (hp : ∀ b15 b16 b17 : Nat → Int32, b15 ρ = v → pr_q0 k b16 b17 → (∀ i, i ≠ k → pr_q0 i a16 a17 → pr_q0 i b16 b17) → (∀ i y w, i ≠ k → pr_q1 i y w a16 a17 a18 a19 → pr_q1 i y w b16 b17 a18 a19) → post x (sz, md, hg, sd, a1, a2, a3, a4, a5, a6, a7, a8, a9, a10, a11, a12, a13, a14, b15, b16, b17, a18, a19, a20)) :
    wpX_take post (sz, md, hg, sd, a1, a2, a3, a4, a5, a6, a7, a8, a9, a10, a11, a12, a13, a14, a15, a16, a17, a18, a19, a20) (nI k) (nI ρ) := by
  obtain ⟨h, hh, e16, e17, e18, e19⟩ := hq
  have ex : (4 : Int32) * nI k + a16 (nI k).toNatClampNeg = nI (4 * k + h) := by
    rw [pr_at (a := a16) (x := nI k) k e16, ← nI_add (4 * k), ← pk_mul]
    rfl
  have ey : ((nI h + 1) &&& 3).toInt8.toInt32 = nI ((h + 1) % 4) := by
    rw [nI_1, pk_andN (show h + 1 < 2 ^ 32 by omega) 2 (by decide)]
    exact pr_b8 _ (by omega)
  refine ⟨pk_in k 9 hk, nm_r ex ⟨pk_in k 9 hk, pk_in k 9 hk, nm_e ⟨pk_in k 9 hk, pk_in k 9 hk, nm_e ⟨pk_in (4 * k + h) 36 (by omega), pk_in ρ 3 hρ, nm_e ⟨pk_in (4 * k + h) 36 (by omega), ?_⟩⟩⟩⟩⟩
  rw [nI_clamp (show k < 2 ^ 31 by omega), nI_clamp (show 4 * k + h < 2 ^ 31 by omega), nI_clamp (show ρ < 2 ^ 31 by omega), e16, e17, e18, e19, ey]
  refine hp _ _ _ pk_us ⟨(h + 1) % 4, by omega, pk_us, ?_⟩ ?_ ?_
  · rw [pk_us]
    decide
  · intro i hi ⟨h', hh', f16, f17⟩
    exact ⟨h', hh', by rw [pk_un hi]; exact f16, by rw [pk_un hi]; exact f17⟩
  · intro i y w hi ⟨h', hh', f16, f17, f18, f19⟩
    exact ⟨h', hh', by rw [pk_un hi]; exact f16, by rw [pk_un hi]; exact f17, f18, f19⟩
theorem pr_go {post : St2 → Prop} {x y : Int32} (hρ : ρ < 3) (hy : y.toInt8.toInt32 = y) (hl : ∀ ψ : Int32 → Prop, ψ y → wpX_localFrom ψ (sz, md, hg, sd, a1, a2, a3, a4, a5, a6, a7, a8, a9, a10, a11, a12, a13, a14, a15, a16, a17, a18, a19, a20) (nI ρ) x)
    (hp : ∀ b11 : Nat → Int32, b11 ρ = y → (∀ i, i ≠ ρ → b11 i = a11 i) → post (sz, md, hg, sd, a1, a2, a3, a4, a5, a6, a7, a8, a9, a10, b11, a12, a13, a14, a15, a16, a17, a18, a19, a20)) : wpX_goOn post (sz, md, hg, sd, a1, a2, a3, a4, a5, a6, a7, a8, a9, a10, a11, a12, a13, a14, a15, a16, a17, a18, a19, a20) (nI ρ) x := by
  unfold wpX_goOn
  dsimp only
  refine hl _ ⟨pk_in ρ 3 hρ, nm_e ?_⟩
  rw [nI_clamp (show ρ < 2 ^ 31 by omega), hy]
  exact hp _ pk_us (fun i hi => pk_un hi)
theorem pr_yb (j n : Nat) (hn : n < 128) : (if j = 0 then nI n else -1).toInt8.toInt32 = (if j = 0 then nI n else -1) := by
  split
  · exact pr_b8 n hn
  · decide
theorem pr_sp1 {post : Int32 → St2 → Prop} (hρ : ρ < 3) (h12 : a12 ρ = 0) (h14 : a14 ρ = nI c) (hj : j < 2) (hk : k < 9) (hq : pr_q0 k a16 a17)
    (hp : ∀ b12 b13 b14 b17 b18 b19 : Nat → Int32, b12 ρ = 1 → b13 ρ = nI j → b14 ρ = nI (c + 1) → (∀ i, i ≠ ρ → b14 i = a14 i) → pr_q1 k (nI j) v a16 b17 b18 b19 → (∀ i, i ≠ k → pr_q0 i a16 a17 → pr_q0 i a16 b17) → post (nI j) (sz, md, hg, sd + 1, a1, a2, a3, a4, a5, a6, a7, a8, a9, a10, a11, b12, b13, b14, a15, a16, b17, b18, b19, a20)) :
    wpX_sendPick post (sz, md, hg, sd, a1, a2, a3, a4, a5, a6, a7, a8, a9, a10, a11, a12, a13, a14, a15, a16, a17, a18, a19, a20) (nI ρ) (nI k) (nI j) v := by
  refine ⟨pk_in ρ 3 hρ, nm_e ⟨pk_in ρ 3 hρ, br_t (pr_at ρ h12) (pk_lt j 0 (fun z => absurd z (by omega)) (fun _ => pk_le j 1 (fun _ => ⟨pk_in ρ 3 hρ, nm_e ⟨pk_in ρ 3 hρ, nm_e ⟨pk_in ρ 3 hρ, pk_in ρ 3 hρ, nm_e (pr_put hk hq (pr_b8 j (by omega)) (fun b17 b18 b19 g1 g2 g3 => ?_))⟩⟩⟩) (fun z => absurd z (by omega))))⟩⟩
  dsimp only
  rw [nI_clamp (show ρ < 2 ^ 31 by omega), pr_b8 j (by omega), h14, nI_1]
  exact hp _ _ _ b17 b18 b19 pk_us pk_us pk_us (fun i hi => pk_un hi) g1 g2
theorem pr_sp2 {post : Int32 → St2 → Prop} {x : Int32} (hR : (P = 0 ∧ Q = 1 ∧ R = 2) ∨ (P = 1 ∧ Q = 0 ∧ R = 2) ∨ (P = 2 ∧ Q = 0 ∧ R = 1)) (hS : pr_St P Q R (nI l) sz a1 a2 a3 a4 a5 a6 a7) (h11 : a11 P = nI 3) (h12 : a12 P = 1) (h13 : a13 P = nI j) (hj : j < 2) (hk : k < 9) (hq : pr_q0 k a16 a17)
    (hp : ∀ b11 b12 b17 b18 b19 : Nat → Int32, b11 P = (if j = 0 then nI 3 else -1) → (∀ i, i ≠ P → b11 i = a11 i) → b12 P = 0 → pr_q1 k (nI j) v a16 b17 b18 b19 → (∀ i, i ≠ k → pr_q0 i a16 a17 → pr_q0 i a16 b17) → (∀ i y w, i ≠ k → pr_q1 i y w a16 a17 a18 a19 → pr_q1 i y w a16 b17 b18 b19) → post (nI j) (sz, md, hg, sd + 1, a1, a2, a3, a4, a5, a6, a7, a8, a9, a10, b11, b12, a13, a14, a15, a16, b17, b18, b19, a20)) :
    wpX_sendPick post (sz, md, hg, sd, a1, a2, a3, a4, a5, a6, a7, a8, a9, a10, a11, a12, a13, a14, a15, a16, a17, a18, a19, a20) (nI P) (nI k) x v := by
  have hS' := hS
  obtain ⟨_, k0, k1, k2, k3, k4, o1, o3, q1, b1, g1, g3, g4, h3, t0⟩ := hS
  have hP : P < 3 := by omega
  refine ⟨pk_in P 3 hP, nm_r (pr_at P h11) ⟨pk_in P 3 hP, br_f (pr_atn P h12 (by decide)) ⟨pk_in P 3 hP, nm_r (pr_at P h13) (pr_put hk hq (pr_b8 j (by omega)) (fun b17 b18 b19 f1 f2 f3 => ⟨pk_in P 3 hP, nm_e ?_⟩))⟩⟩⟩
  have key : wX_sendPick_111 post (nI j) (nI (1 + j)) (nI P) sz md hg (sd + 1) a1 a2 a3 a4 a5 a6 a7 a8 a9 a10 a11 (upd a12 (nI P).toNatClampNeg 0) a13 a14 a15 a16 b17 b18 b19 a20 := by
    unfold wX_sendPick_111
    exact pr_go hP (pr_yb j 3 (by omega)) (fun ψ h => pr_lfP hR hS' hj h) (fun b11 e1 e2 => hp b11 _ b17 b18 b19 e1 e2 (by rw [nI_clamp (show P < 2 ^ 31 by omega)]; exact pk_us) f1 f2 f3)
  refine pk_eq j 0 (fun z => ⟨pk_in 3 40 (by omega), ?_⟩) (fun z => ⟨pk_in 3 40 (by omega), ?_⟩)
  · rw [pr_at (a := a5) (x := nI 3) 3 g3]
    rw [show 1 + j = 1 by omega] at key
    exact key
  · rw [pr_at (a := a6) (x := nI 3) 3 h3]
    rw [show 1 + j = 2 by omega] at key
    exact key
theorem pr_sm {post : Int32 → St2 → Prop} (hS : pr_St P Q R (nI l) sz a1 a2 a3 a4 a5 a6 a7) (hl : l < 4) (hQ : Q < 3) (h11 : a11 Q = nI 1) (hk : k < 9) (hq : pr_q0 k a16 a17)
    (hp : ∀ b11 b17 b18 b19 : Nat → Int32, b11 Q = nI 3 → (∀ i, i ≠ Q → b11 i = a11 i) → pr_q1 k (nI l) v a16 b17 b18 b19 → (∀ i, i ≠ k → pr_q0 i a16 a17 → pr_q0 i a16 b17) → post (nI l) (sz, md, hg, sd + 1, a1, a2, a3, a4, a5, a6, a7, a8, a9, a10, b11, a12, a13, a14, a15, a16, b17, b18, b19, a20)) :
    wpX_sendMessage post (sz, md, hg, sd, a1, a2, a3, a4, a5, a6, a7, a8, a9, a10, a11, a12, a13, a14, a15, a16, a17, a18, a19, a20) (nI Q) (nI k) v := by
  have hS' := hS
  obtain ⟨_, k0, k1, k2, k3, k4, o1, o3, q1, b1, g1, g3, g4, h3, t0⟩ := hS
  refine ⟨pk_in Q 3 hQ, nm_r (pr_at Q h11) ⟨pk_in 1 40 (by omega), nm_r (pr_at 1 b1) (pr_put hk hq (pr_b8 l (by omega)) (fun b17 b18 b19 f1 f2 f3 => ⟨pk_in 1 40 (by omega), ?_⟩))⟩⟩
  rw [pr_at (a := a5) (x := nI 1) 1 g1]
  exact pr_go hQ (pr_b8 3 (by omega)) (fun ψ h => pr_lf0 hS' h) (fun b11 e1 e2 => hp b11 b17 b18 b19 e1 e2 f1 f2)
/-! send -/
theorem pr_send_n {post : Int32 → St2 → Prop} {x : Int32} (hρ : ρ < 3) (hs : ∀ ψ : Int32 → Prop, ψ 0 → wpX_sends ψ (sz, md, hg, sd, a1, a2, a3, a4, a5, a6, a7, a8, a9, a10, a11, a12, a13, a14, a15, a16, a17, a18, a19, a20) (nI ρ)) (hp : post (-4) (sz, md, hg, sd, a1, a2, a3, a4, a5, a6, a7, a8, a9, a10, a11, a12, a13, a14, a15, a16, a17, a18, a19, a20)) : wpX_send post (sz, md, hg, sd, a1, a2, a3, a4, a5, a6, a7, a8, a9, a10, a11, a12, a13, a14, a15, a16, a17, a18, a19, a20) (nI ρ) x v := by
  unfold wpX_send
  dsimp only
  exact pr_bad hρ (br_t rfl (hs _ (br_t rfl hp)))
theorem pr_send_b {post : Int32 → St2 → Prop} {x : Int32} (hR : (P = 0 ∧ Q = 1 ∧ R = 2) ∨ (P = 1 ∧ Q = 0 ∧ R = 2) ∨ (P = 2 ∧ Q = 0 ∧ R = 1)) (hS : pr_St P Q R (nI l) sz a1 a2 a3 a4 a5 a6 a7) (h11 : a11 P = nI 3) (h12 : a12 P = 0) (hq : pr_q0 (3 * P + Q) a16 a17) (hj : 2 ≤ j) (hj2 : j < 100) (hx : x = nI j) (hp : post (-1) (sz, md, hg, sd, a1, a2, a3, a4, a5, a6, a7, a8, a9, a10, a11, a12, a13, a14, a15, a16, a17, a18, a19, a20)) : wpX_send post (sz, md, hg, sd, a1, a2, a3, a4, a5, a6, a7, a8, a9, a10, a11, a12, a13, a14, a15, a16, a17, a18, a19, a20) (nI P) x v := by
  subst hx
  have hS' := hS
  obtain ⟨_, k0, k1, k2, k3, k4, o1, o3, q1, b1, g1, g3, g4, h3, t0⟩ := hS
  obtain ⟨h, hh, e16, e17⟩ := hq
  have hP : P < 3 := by omega
  unfold wpX_send
  dsimp only
  refine pr_bad hP (br_t rfl (pr_sends_y (k := 3) hP h11 (by omega) o3 (br_f (by decide) (pr_po_0 hR hS' h11 h12 (pr_qo P Q ⟨pk_in (3 * P + Q) 9 (by omega), br_f (pr_atn (3 * P + Q) e17 (by decide)) ⟨pk_in P 3 hP, pk_in 3 40 (by omega) (pr_at P h11), br_f (pr_atn 3 k3 (by decide) (pr_at P h11)) ?_⟩⟩)))))
  exact ⟨pk_in P 3 hP, nm_e ⟨pk_in P 3 hP, br_t (pr_at P h12) (pk_lt j 0 (fun z => absurd z (by omega)) (fun _ => pk_le j 1 (fun z => absurd z (by omega)) (fun _ => hp)))⟩⟩
theorem pr_send_1 {post : Int32 → St2 → Prop} (hR : (P = 0 ∧ Q = 1 ∧ R = 2) ∨ (P = 1 ∧ Q = 0 ∧ R = 2) ∨ (P = 2 ∧ Q = 0 ∧ R = 1)) (hS : pr_St P Q R (nI l) sz a1 a2 a3 a4 a5 a6 a7) (h11 : a11 P = nI 3) (h12 : a12 P = 0) (h14 : a14 P = nI c) (hq : pr_q0 (3 * P + Q) a16 a17) (hj : j < 2)
    (hp : ∀ b12 b13 b14 b17 b18 b19 : Nat → Int32, b12 P = 1 → b13 P = nI j → b14 P = nI (c + 1) → (∀ i, i ≠ P → b14 i = a14 i) → pr_q1 (3 * P + Q) (nI j) v a16 b17 b18 b19 → (∀ i, i ≠ 3 * P + Q → pr_q0 i a16 a17 → pr_q0 i a16 b17) → post (nI j) (sz, md, hg, sd + 1, a1, a2, a3, a4, a5, a6, a7, a8, a9, a10, a11, b12, b13, b14, a15, a16, b17, b18, b19, a20)) :
    wpX_send post (sz, md, hg, sd, a1, a2, a3, a4, a5, a6, a7, a8, a9, a10, a11, a12, a13, a14, a15, a16, a17, a18, a19, a20) (nI P) (nI j) v := by
  have hS' := hS
  obtain ⟨_, k0, k1, k2, k3, k4, o1, o3, q1, b1, g1, g3, g4, h3, t0⟩ := hS
  have hq' := hq
  obtain ⟨h, hh, e16, e17⟩ := hq
  have hP : P < 3 := by omega
  unfold wpX_send
  dsimp only
  refine pr_bad hP (br_t rfl (pr_sends_y (k := 3) hP h11 (by omega) o3 (br_f (by decide) (pr_po_0 hR hS' h11 h12 (pr_qo P Q ⟨pk_in (3 * P + Q) 9 (by omega), br_f (pr_atn (3 * P + Q) e17 (by decide)) ⟨pk_in P 3 hP, pk_in 3 40 (by omega) (pr_at P h11), br_f (pr_atn 3 k3 (by decide) (pr_at P h11)) ?_⟩⟩)))))
  exact pr_sp1 hP h12 h14 hj (by omega) hq' hp
theorem pr_send_2 {post : Int32 → St2 → Prop} {x : Int32} (hR : (P = 0 ∧ Q = 1 ∧ R = 2) ∨ (P = 1 ∧ Q = 0 ∧ R = 2) ∨ (P = 2 ∧ Q = 0 ∧ R = 1)) (hS : pr_St P Q R (nI l) sz a1 a2 a3 a4 a5 a6 a7) (h11 : a11 P = nI 3) (h12 : a12 P = 1) (h13 : a13 P = nI j) (hq : pr_q0 (3 * P + R) a16 a17) (hj : j < 2)
    (hp : ∀ b11 b12 b17 b18 b19 : Nat → Int32, b11 P = (if j = 0 then nI 3 else -1) → (∀ i, i ≠ P → b11 i = a11 i) → b12 P = 0 → pr_q1 (3 * P + R) (nI j) v a16 b17 b18 b19 → (∀ i, i ≠ 3 * P + R → pr_q0 i a16 a17 → pr_q0 i a16 b17) → (∀ i y w, i ≠ 3 * P + R → pr_q1 i y w a16 a17 a18 a19 → pr_q1 i y w a16 b17 b18 b19) → post (nI j) (sz, md, hg, sd + 1, a1, a2, a3, a4, a5, a6, a7, a8, a9, a10, b11, b12, a13, a14, a15, a16, b17, b18, b19, a20)) :
    wpX_send post (sz, md, hg, sd, a1, a2, a3, a4, a5, a6, a7, a8, a9, a10, a11, a12, a13, a14, a15, a16, a17, a18, a19, a20) (nI P) x v := by
  have hS' := hS
  obtain ⟨_, k0, k1, k2, k3, k4, o1, o3, q1, b1, g1, g3, g4, h3, t0⟩ := hS
  have hq' := hq
  obtain ⟨h, hh, e16, e17⟩ := hq
  have hP : P < 3 := by omega
  unfold wpX_send
  dsimp only
  refine pr_bad hP (br_t rfl (pr_sends_y (k := 3) hP h11 (by omega) o3 (br_f (by decide) (pr_po_1 hR hS' h11 h12 (pr_qo P R ⟨pk_in (3 * P + R) 9 (by omega), br_f (pr_atn (3 * P + R) e17 (by decide)) ⟨pk_in P 3 hP, pk_in 3 40 (by omega) (pr_at P h11), br_f (pr_atn 3 k3 (by decide) (pr_at P h11)) ?_⟩⟩)))))
  exact pr_sp2 hR hS' h11 h12 h13 hj (by omega) hq' hp
theorem pr_send_m {post : Int32 → St2 → Prop} {x : Int32} (hR : (P = 0 ∧ Q = 1 ∧ R = 2) ∨ (P = 1 ∧ Q = 0 ∧ R = 2) ∨ (P = 2 ∧ Q = 0 ∧ R = 1)) (hS : pr_St P Q R (nI l) sz a1 a2 a3 a4 a5 a6 a7) (hl : l < 4) (h11 : a11 Q = nI 1) (hq : pr_q0 (3 * Q + R) a16 a17)
    (hp : ∀ b11 b17 b18 b19 : Nat → Int32, b11 Q = nI 3 → (∀ i, i ≠ Q → b11 i = a11 i) → pr_q1 (3 * Q + R) (nI l) v a16 b17 b18 b19 → (∀ i, i ≠ 3 * Q + R → pr_q0 i a16 a17 → pr_q0 i a16 b17) → post (nI l) (sz, md, hg, sd + 1, a1, a2, a3, a4, a5, a6, a7, a8, a9, a10, b11, a12, a13, a14, a15, a16, b17, b18, b19, a20)) :
    wpX_send post (sz, md, hg, sd, a1, a2, a3, a4, a5, a6, a7, a8, a9, a10, a11, a12, a13, a14, a15, a16, a17, a18, a19, a20) (nI Q) x v := by
  have hS' := hS
  obtain ⟨_, k0, k1, k2, k3, k4, o1, o3, q1, b1, g1, g3, g4, h3, t0⟩ := hS
  have hq' := hq
  obtain ⟨h, hh, e16, e17⟩ := hq
  have hQ : Q < 3 := by omega
  unfold wpX_send
  dsimp only
  refine pr_bad hQ (br_t rfl (pr_sends_y (k := 1) hQ h11 (by omega) o1 (br_f (by decide) (pr_po_m (σ := R) hQ h11 (by omega) o1 k1 q1 (pr_qo Q R ⟨pk_in (3 * Q + R) 9 (by omega), br_f (pr_atn (3 * Q + R) e17 (by decide)) ⟨pk_in Q 3 hQ, pk_in 1 40 (by omega) (pr_at Q h11), br_t (pr_at 1 k1 (pr_at Q h11)) ?_⟩⟩)))))
  exact pr_sm hS' hl hQ h11 (by omega) hq' hp
/-! receive -/
theorem pr_recv_n {post : Int32 → St2 → Prop} (hR : (P = 0 ∧ Q = 1 ∧ R = 2) ∨ (P = 1 ∧ Q = 0 ∧ R = 2) ∨ (P = 2 ∧ Q = 0 ∧ R = 1)) (hS : pr_St P Q R (nI l) sz a1 a2 a3 a4 a5 a6 a7) (hρ : ρ < 3) (hne : ρ ≠ P) (h11 : a11 ρ = nI 3) (hq : pr_q0 (3 * P + ρ) a16 a17) (hp : post (-4) (sz, md, hg, sd, a1, a2, a3, a4, a5, a6, a7, a8, a9, a10, a11, a12, a13, a14, a15, a16, a17, a18, a19, a20)) : wpX_receive post (sz, md, hg, sd, a1, a2, a3, a4, a5, a6, a7, a8, a9, a10, a11, a12, a13, a14, a15, a16, a17, a18, a19, a20) (nI ρ) := by
  obtain ⟨_, k0, k1, k2, k3, k4, o1, o3, q1, b1, g1, g3, g4, h3, t0⟩ := hS
  obtain ⟨h, hh, e16, e17⟩ := hq
  unfold wpX_receive
  dsimp only
  exact pr_bad hρ (br_t rfl ⟨pk_in ρ 3 hρ, nm_r (pr_at ρ h11) (br_f (nI_pos (by omega)) ⟨pk_in 3 40 (by omega), br_f (pr_atn 3 o3 (pr_nn (by omega))) ⟨pk_in 3 40 (by omega), pr_qo P ρ ⟨pk_in (3 * P + ρ) 9 (by omega), br_t (pr_at (3 * P + ρ) e17) hp⟩ (pr_at 3 o3)⟩⟩)⟩)
theorem pr_recv_c {post : Int32 → St2 → Prop} (hR : (P = 0 ∧ Q = 1 ∧ R = 2) ∨ (P = 1 ∧ Q = 0 ∧ R = 2) ∨ (P = 2 ∧ Q = 0 ∧ R = 1)) (hS : pr_St P Q R (nI l) sz a1 a2 a3 a4 a5 a6 a7) (hρ : ρ < 3) (hne : ρ ≠ P) (h11 : a11 ρ = nI 3) (h14 : a14 ρ = nI c) (hj : j < 2) (hq : pr_q1 (3 * P + ρ) (nI j) v a16 a17 a18 a19)
    (hp : ∀ b11 b14 b15 b16 b17 : Nat → Int32, b11 ρ = (if j = 0 then nI 1 else -1) → (∀ i, i ≠ ρ → b11 i = a11 i) → b14 ρ = nI (c + 1) → (∀ i, i ≠ ρ → b14 i = a14 i) → b15 ρ = v → pr_q0 (3 * P + ρ) b16 b17 → (∀ i, i ≠ 3 * P + ρ → pr_q0 i a16 a17 → pr_q0 i b16 b17) → (∀ i y w, i ≠ 3 * P + ρ → pr_q1 i y w a16 a17 a18 a19 → pr_q1 i y w b16 b17 a18 a19) → post (nI j) (sz, md, hg, sd, a1, a2, a3, a4, a5, a6, a7, a8, a9, a10, b11, a12, a13, b14, b15, b16, b17, a18, a19, a20)) :
    wpX_receive post (sz, md, hg, sd, a1, a2, a3, a4, a5, a6, a7, a8, a9, a10, a11, a12, a13, a14, a15, a16, a17, a18, a19, a20) (nI ρ) := by
  have hS' := hS
  obtain ⟨_, k0, k1, k2, k3, k4, o1, o3, q1, b1, g1, g3, g4, h3, t0⟩ := hS
  have hq' := hq
  obtain ⟨h, hh, e16, e17, e18, e19⟩ := hq
  unfold wpX_receive
  dsimp only
  refine pr_bad hρ (br_t rfl ⟨pk_in ρ 3 hρ, nm_r (pr_at ρ h11) (br_f (nI_pos (by omega)) ⟨pk_in 3 40 (by omega), br_f (pr_atn 3 o3 (pr_nn (by omega))) ⟨pk_in 3 40 (by omega), pr_qo P ρ ⟨pk_in (3 * P + ρ) 9 (by omega), br_f (pr_atn (3 * P + ρ) e17 (by decide)) (pr_take (by omega) hρ hq' (fun b15 b16 b17 e15 f0 f1 f2 => ⟨pk_in 3 40 (by omega), br_t (pr_at 3 k3) ⟨pk_in ρ 3 hρ, pk_in ρ 3 hρ, nm_e ?_⟩⟩))⟩ (pr_at 3 o3)⟩⟩)⟩)
  have key : wX_receive_119 post (nI j) (nI (1 + j)) (nI ρ) sz md hg sd a1 a2 a3 a4 a5 a6 a7 a8 a9 a10 a11 a12 a13 (upd a14 (nI ρ).toNatClampNeg (a14 (nI ρ).toNatClampNeg + 1)) b15 b16 b17 a18 a19 a20 := by
    unfold wX_receive_119
    refine pr_go hρ (pr_yb j 1 (by omega)) (fun ψ h => pr_lfX hR hS' hρ hne hj h) (fun b11 e1 e2 => ?_)
    rw [nI_clamp (show ρ < 2 ^ 31 by omega), h14, nI_1]
    exact hp b11 _ b15 b16 b17 e1 e2 pk_us (fun i hi => pk_un hi) e15 f0 f1 f2
  refine ⟨pk_in 3 40 (by omega), br_t (pr_at 3 k3) (pk_eq j 1 (fun z => ⟨pk_in 3 40 (by omega), ?_⟩) (fun z => ⟨pk_in 3 40 (by omega), ?_⟩))⟩
  · dsimp only
    rw [pr_at (a := a6) (x := nI 3) 3 h3]
    rw [show 1 + j = 2 by omega] at key
    exact key
  · dsimp only
    rw [pr_at (a := a5) (x := nI 3) 3 g3]
    rw [show 1 + j = 1 by omega] at key
    exact key
theorem pr_recv_m {post : Int32 → St2 → Prop} (hR : (P = 0 ∧ Q = 1 ∧ R = 2) ∨ (P = 1 ∧ Q = 0 ∧ R = 2) ∨ (P = 2 ∧ Q = 0 ∧ R = 1)) (hS : pr_St P Q R (nI l) sz a1 a2 a3 a4 a5 a6 a7) (h11 : a11 R = nI 1) (hq : pr_q1 (3 * Q + R) (nI l) v a16 a17 a18 a19)
    (hp : ∀ b11 b15 b16 b17 : Nat → Int32, b11 R = nI 3 → (∀ i, i ≠ R → b11 i = a11 i) → b15 R = v → pr_q0 (3 * Q + R) b16 b17 → (∀ i, i ≠ 3 * Q + R → pr_q0 i a16 a17 → pr_q0 i b16 b17) → post (nI l) (sz, md, hg, sd, a1, a2, a3, a4, a5, a6, a7, a8, a9, a10, b11, a12, a13, a14, b15, b16, b17, a18, a19, a20)) :
    wpX_receive post (sz, md, hg, sd, a1, a2, a3, a4, a5, a6, a7, a8, a9, a10, a11, a12, a13, a14, a15, a16, a17, a18, a19, a20) (nI R) := by
  have hS' := hS
  obtain ⟨_, k0, k1, k2, k3, k4, o1, o3, q1, b1, g1, g3, g4, h3, t0⟩ := hS
  have hq' := hq
  obtain ⟨h, hh, e16, e17, e18, e19⟩ := hq
  have hr : R < 3 := by omega
  unfold wpX_receive
  dsimp only
  refine pr_bad hr (br_t rfl ⟨pk_in R 3 hr, nm_r (pr_at R h11) (br_f (nI_pos (by omega)) ⟨pk_in 1 40 (by omega), br_f (pr_atn 1 o1 (pr_nn (by omega))) ⟨pk_in 1 40 (by omega), pr_qo Q R ⟨pk_in (3 * Q + R) 9 (by omega), br_f (pr_atn (3 * Q + R) e17 (by decide)) (pr_take (by omega) hr hq' (fun b15 b16 b17 e15 f0 f1 f2 => ⟨pk_in 1 40 (by omega), br_f (pr_atn 1 k1 (by decide)) ⟨pk_in 1 40 (by omega), br_f (pr_atn 1 k1 (by decide)) ⟨pk_in 1 40 (by omega), ?_⟩⟩⟩))⟩ (pr_at 1 o1)⟩⟩)⟩)
  dsimp only
  rw [pr_at (a := a5) (x := nI 1) 1 g1]
  unfold wX_receive_119
  exact pr_go hr (pr_b8 3 (by omega)) (fun ψ h => pr_lf0 hS' h) (fun b11 e1 e2 => hp b11 b15 b16 b17 e1 e2 e15 f0 f1)
end
end
section
/-! ===== canFinish ===== -/
/-- the search from f, before turn i: what has been seen, whether the end was found -/
def pr_I (f i : Nat) (x : Int32) (a : Nat → Int32) : Prop :=
  (x = 0 ∨ x = 1) ∧ (f = 1 → a 1 ≠ 0) ∧ (f = 1 → 2 ≤ i → a 0 ≠ 0) ∧ (f = 1 → 21 ≤ i → a 4 ≠ 0) ∧ (f = 3 ∨ f = 1 ∧ 25 ≤ i → a 3 ≠ 0) ∧ (f = 2 ∨ f = 3 ∧ 4 ≤ i ∨ f = 1 ∧ 44 ≤ i → a 2 ≠ 0) ∧ (63 ≤ i → x = 1)
theorem pr_I_skip {f i : Nat} {x : Int32} {a : Nat → Int32} (hf : f = 1 ∨ f = 2 ∨ f = 3) (h : pr_I f i x a) (hs : 5 ≤ i % 20 ∨ a (i % 20) = 0) : pr_I f (i + 1) x a := by
  obtain ⟨h0, h1, h2, h3, h4, h5, h6⟩ := h
  have key : ∀ m, m < 5 → i % 20 = m → a m = 0 := by
    intro m hm e
    rcases hs with z | z
    · omega
    · rw [e] at z
      exact z
  refine ⟨h0, h1, ?_, ?_, ?_, ?_, ?_⟩
  · intro e z
    by_cases g : 2 ≤ i
    · exact h2 e g
    · exact absurd (key 1 (by omega) (by omega)) (h1 e)
  · intro e z
    by_cases g : 21 ≤ i
    · exact h3 e g
    · exact absurd (key 0 (by omega) (by omega)) (h2 e (by omega))
  · intro z
    by_cases g : f = 3 ∨ f = 1 ∧ 25 ≤ i
    · exact h4 g
    · exact absurd (key 4 (by omega) (by omega)) (h3 (by omega) (by omega))
  · intro z
    by_cases g : f = 2 ∨ f = 3 ∧ 4 ≤ i ∨ f = 1 ∧ 44 ≤ i
    · exact h5 g
    · exact absurd (key 3 (by omega) (by omega)) (h4 (by omega))
  · intro z
    by_cases g : 63 ≤ i
    · exact h6 g
    · exact absurd (key 2 (by omega) (by omega)) (h5 (by omega))
theorem pr_I_step {f i : Nat} {x x' : Int32} {a b : Nat → Int32} (hf : f = 1 ∨ f = 2 ∨ f = 3) (h : pr_I f i x a) (hb : ∀ j, a j ≠ 0 → b j ≠ 0) (b0 : i % 20 = 0 → b 4 ≠ 0) (b1 : i % 20 = 1 → b 0 ≠ 0) (b3 : i % 20 = 3 → b 2 ≠ 0) (b4 : i % 20 = 4 → b 3 ≠ 0) (hx : x' = 0 ∨ x' = 1) (hxx : x = 1 → x' = 1) (hx2 : i % 20 = 2 → x' = 1) : pr_I f (i + 1) x' b := by
  obtain ⟨h0, h1, h2, h3, h4, h5, h6⟩ := h
  refine ⟨hx, fun e => hb 1 (h1 e), ?_, ?_, ?_, ?_, ?_⟩
  · intro e z
    by_cases g : 2 ≤ i
    · exact hb 0 (h2 e g)
    · exact b1 (by omega)
  · intro e z
    by_cases g : 21 ≤ i
    · exact hb 4 (h3 e g)
    · exact b0 (by omega)
  · intro z
    by_cases g : f = 3 ∨ f = 1 ∧ 25 ≤ i
    · exact hb 3 (h4 g)
    · exact b4 (by omega)
  · intro z
    by_cases g : f = 2 ∨ f = 3 ∧ 4 ≤ i ∨ f = 1 ∧ 44 ≤ i
    · exact hb 2 (h5 g)
    · exact b3 (by omega)
  · intro z
    by_cases g : 63 ≤ i
    · exact hxx (h6 g)
    · exact hx2 (by omega)
theorem pr_um {a : Nat → Int32} (k : Nat) : ∀ j, a j ≠ 0 → upd a k 1 j ≠ 0 := by
  intro j h
  by_cases e : j = k
  · rw [e, pk_us]
    decide
  · rw [pk_un e]
    exact h
theorem pr_u1 {a : Nat → Int32} {k : Nat} : upd a k 1 k ≠ 0 := by
  rw [pk_us]
  decide
section
variable {sz md hg sd : Int32} {a1 a2 a3 a4 a5 a6 a7 a8 a9 a10 a11 a12 a13 a14 a15 a16 a17 a18 a19 a20 : Nat → Int32} {P Q R l c : Nat}
theorem pr_fm_k {post : Int32 → Prop} {n b i cb ci : Nat} (hb : b < 3) (hi : i < 3) (h : a14 i = nI ci) (h' : a14 b = nI cb) (hle : ci ≤ cb) (hc : cb < 1000) (hw : wX_foremost_4 post sz md hg sd a1 a2 a3 a4 a5 a6 a7 a8 a9 a10 a11 a12 a13 a14 a15 a16 a17 a18 a19 a20 n (nI b) (nI (i + 1))) : wX_foremost_4 post sz md hg sd a1 a2 a3 a4 a5 a6 a7 a8 a9 a10 a11 a12 a13 a14 a15 a16 a17 a18 a19 a20 (n + 1) (nI b) (nI i) :=
  pk_le 3 i (fun z => absurd z (by omega)) (fun _ => ⟨pk_in i 3 hi, pk_in b 3 hb, pk_le ci cb (fun _ => nm_r (nI_1 i) hw) (fun z => absurd z (by omega)) (pr_at i h) (pr_at b h')⟩)
theorem pr_fm_n {post : Int32 → Prop} {n b i cb ci : Nat} (hb : b < 3) (hi : i < 3) (h : a14 i = nI ci) (h' : a14 b = nI cb) (hlt : cb < ci) (hc : ci < 1000) (hw : wX_foremost_4 post sz md hg sd a1 a2 a3 a4 a5 a6 a7 a8 a9 a10 a11 a12 a13 a14 a15 a16 a17 a18 a19 a20 n (nI i) (nI (i + 1))) : wX_foremost_4 post sz md hg sd a1 a2 a3 a4 a5 a6 a7 a8 a9 a10 a11 a12 a13 a14 a15 a16 a17 a18 a19 a20 (n + 1) (nI b) (nI i) :=
  pk_le 3 i (fun z => absurd z (by omega)) (fun _ => ⟨pk_in i 3 hi, pk_in b 3 hb, pk_le ci cb (fun z => absurd z (by omega)) (fun _ => nm_r (nI_1 i) hw) (pr_at i h) (pr_at b h')⟩)
theorem pr_fm_e {post : Int32 → Prop} {n b : Nat} (hp : post (nI b)) : wX_foremost_4 post sz md hg sd a1 a2 a3 a4 a5 a6 a7 a8 a9 a10 a11 a12 a13 a14 a15 a16 a17 a18 a19 a20 (n + 1) (nI b) (nI 3) :=
  pk_le 3 3 (fun _ => hp) (fun z => absurd z (by omega))
theorem pr_fmP {post : Int32 → Prop} (hR : (P = 0 ∧ Q = 1 ∧ R = 2) ∨ (P = 1 ∧ Q = 0 ∧ R = 2) ∨ (P = 2 ∧ Q = 0 ∧ R = 1)) (hP : a14 P = nI (c + 1)) (hQ : a14 Q = nI c) (hr : a14 R = nI c) (hc : c < 900) (hp : post (nI P)) : wpX_foremost post (sz, md, hg, sd, a1, a2, a3, a4, a5, a6, a7, a8, a9, a10, a11, a12, a13, a14, a15, a16, a17, a18, a19, a20) := by
  rcases hR with ⟨rfl, rfl, rfl⟩ | ⟨rfl, rfl, rfl⟩ | ⟨rfl, rfl, rfl⟩
  · exact ⟨3, pr_fm_k (b := 0) (i := 1) (by omega) (by omega) hQ hP (by omega) (by omega) (pr_fm_k (b := 0) (i := 2) (by omega) (by omega) hr hP (by omega) (by omega) (pr_fm_e hp))⟩
  · exact ⟨3, pr_fm_n (b := 0) (i := 1) (by omega) (by omega) hP hQ (by omega) (by omega) (pr_fm_k (b := 1) (i := 2) (by omega) (by omega) hr hP (by omega) (by omega) (pr_fm_e hp))⟩
  · exact ⟨3, pr_fm_k (b := 0) (i := 1) (by omega) (by omega) hr hQ (by omega) (by omega) (pr_fm_n (b := 0) (i := 2) (by omega) (by omega) hP hQ (by omega) (by omega) (pr_fm_e hp))⟩
theorem pr_fm0 {post : Int32 → Prop} (h0 : a14 0 = nI c) (h1 : a14 1 = nI c) (h2 : a14 2 = nI c) (hc : c < 900) (hp : post (nI 0)) : wpX_foremost post (sz, md, hg, sd, a1, a2, a3, a4, a5, a6, a7, a8, a9, a10, a11, a12, a13, a14, a15, a16, a17, a18, a19, a20) :=
  ⟨3, pr_fm_k (b := 0) (i := 1) (by omega) (by omega) h1 h0 (by omega) (by omega) (pr_fm_k (b := 0) (i := 2) (by omega) (by omega) h2 h0 (by omega) (by omega) (pr_fm_e hp))⟩
theorem pr_spread {post : St2 → Prop} {m : Nat} (hS : pr_St P Q R (nI l) sz a1 a2 a3 a4 a5 a6 a7) (hm : m < 5) (hp : ∀ b20 : Nat → Int32, (∀ j, a20 j ≠ 0 → b20 j ≠ 0) → (m = 0 → b20 4 ≠ 0) → (m = 1 → b20 0 ≠ 0) → (m = 3 → b20 2 ≠ 0) → (m = 4 → b20 3 ≠ 0) → post (sz, md, hg, sd, a1, a2, a3, a4, a5, a6, a7, a8, a9, a10, a11, a12, a13, a14, a15, a16, a17, a18, a19, b20)) : wpX_spread post (sz, md, hg, sd, a1, a2, a3, a4, a5, a6, a7, a8, a9, a10, a11, a12, a13, a14, a15, a16, a17, a18, a19, a20) (nI m) := by
  obtain ⟨_, k0, k1, k2, k3, k4, o1, o3, q1, b1, g1, g3, g4, h3, t0⟩ := hS
  match m, hm, hp with
  | 0, _, hp =>
    have e : (a7 (nI 0).toNatClampNeg).toNatClampNeg = 4 := pk_cl 4 (pr_at 0 t0)
    refine ⟨pk_in 0 40 (by omega), nm_r (pr_at 0 k0) (br_t rfl ⟨pk_in 0 20 (by omega), pk_in 4 20 (by omega) (pr_at 0 t0), nm_r (e' := upd a20 4 1) (by rw [e]) (br_f (by decide) ?_)⟩)⟩
    exact hp _ (pr_um 4) (fun _ => pr_u1) (fun z => absurd z (by decide)) (fun z => absurd z (by decide)) (fun z => absurd z (by decide))
  | 1, _, hp =>
    have e : (a5 (nI 1).toNatClampNeg).toNatClampNeg = 0 := pk_cl 0 (pr_at 1 g1)
    refine ⟨pk_in 1 40 (by omega), nm_r (pr_at 1 k1) (br_f (by decide) (br_f (by decide) ⟨pk_in 1 40 (by omega), pk_in 0 20 (by omega) (pr_at 1 g1), nm_r (e' := upd a20 0 1) (by rw [e]) (br_f (by decide) ?_)⟩))⟩
    exact hp _ (pr_um 0) (fun z => absurd z (by decide)) (fun _ => pr_u1) (fun z => absurd z (by decide)) (fun z => absurd z (by decide))
  | 2, _, hp =>
    refine ⟨pk_in 2 40 (by omega), nm_r (pr_at 2 k2) (br_f (by decide) (br_t rfl (br_f (by decide) ?_)))⟩
    exact hp _ (fun _ h => h) (fun z => absurd z (by decide)) (fun z => absurd z (by decide)) (fun z => absurd z (by decide)) (fun z => absurd z (by decide))
  | 3, _, hp =>
    have e : (a5 (nI 3).toNatClampNeg).toNatClampNeg = 1 := pk_cl 1 (pr_at 3 g3)
    have e' : (a6 (nI 3).toNatClampNeg).toNatClampNeg = 2 := pk_cl 2 (pr_at 3 h3)
    refine ⟨pk_in 3 40 (by omega), nm_r (pr_at 3 k3) (br_f (by decide) (br_f (by decide) ⟨pk_in 3 40 (by omega), pk_in 1 20 (by omega) (pr_at 3 g3), nm_r (e' := upd a20 1 1) (by rw [e]) (br_t rfl ⟨pk_in 3 40 (by omega), pk_in 2 20 (by omega) (pr_at 3 h3), nm_r (e' := upd (upd a20 1 1) 2 1) (by rw [e']) ?_⟩)⟩))⟩
    exact hp _ (fun j h => pr_um 2 j (pr_um 1 j h)) (fun z => absurd z (by decide)) (fun z => absurd z (by decide)) (fun _ => pr_u1) (fun z => absurd z (by decide))
  | 4, _, hp =>
    have e : (a5 (nI 4).toNatClampNeg).toNatClampNeg = 3 := pk_cl 3 (pr_at 4 g4)
    refine ⟨pk_in 4 40 (by omega), nm_r (pr_at 4 k4) (br_f (by decide) (br_f (by decide) ⟨pk_in 4 40 (by omega), pk_in 3 20 (by omega) (pr_at 4 g4), nm_r (e' := upd a20 3 1) (by rw [e]) (br_f (by decide) ?_)⟩))⟩
    exact hp _ (pr_um 3) (fun z => absurd z (by decide)) (fun z => absurd z (by decide)) (fun z => absurd z (by decide)) (fun _ => pr_u1)
theorem pr_ec34 {post : Int32 → St2 → Prop} {f : Nat} (hS : pr_St P Q R (nI l) sz a1 a2 a3 a4 a5 a6 a7) (hf : f = 1 ∨ f = 2 ∨ f = 3) (h20 : a20 f = 1) (hp : ∀ b20 : Nat → Int32, post 1 (sz, md, hg, sd, a1, a2, a3, a4, a5, a6, a7, a8, a9, a10, a11, a12, a13, a14, a15, a16, a17, a18, a19, b20)) : ∃ n, wX_endComes_34 post n 0 0 sz md hg sd a1 a2 a3 a4 a5 a6 a7 a8 a9 a10 a11 a12 a13 a14 a15 a16 a17 a18 a19 a20 := by
  have i0 : pr_I f 0 0 a20 := by
    refine ⟨Or.inl rfl, ?_, ?_, ?_, ?_, ?_, ?_⟩
    · intro e
      rw [e] at h20
      rw [h20]
      decide
    · intro _ z
      omega
    · intro _ z
      omega
    · intro z
      rw [show f = 3 by omega] at h20
      rw [h20]
      decide
    · intro z
      rw [show f = 2 by omega] at h20
      rw [h20]
      decide
    · intro z
      omega
  refine pk_loop (σ := Int32 × (Nat → Int32)) (fun n i s => wX_endComes_34 post n s.1 (nI i) sz md hg sd a1 a2 a3 a4 a5 a6 a7 a8 a9 a10 a11 a12 a13 a14 a15 a16 a17 a18 a19 (s.2)) (fun i s => pr_I f i s.1 s.2) 400 0 ((0 : Int32), a20) (by omega) i0 ?_ ?_
  · intro n s h
    have e : s.1 = 1 := h.2.2.2.2.2.2 (by omega)
    refine pk_le 400 400 (fun _ => ?_) (fun z => absurd z (by omega))
    rw [e]
    exact ⟨by rfl, hp s.2⟩
  · intro n i s hi h hw
    have hsz := hS.1
    have k2 := hS.2.2.2.1
    refine pk_le 400 i (fun z => absurd z (by omega)) (fun _ => ⟨by decide, nm_r (pk_rem (a := i) (d := 20) (by omega) (by omega) (by omega)) ?_⟩)
    refine pk_le 5 (i % 20) (fun z => nm_r (nI_1 i) (hw s (pr_I_skip hf h (Or.inl z)))) (fun z => ⟨pk_in (i % 20) 20 (by omega), br_c (fun e => nm_r (nI_1 i) (hw s (pr_I_skip hf h (Or.inr ?_)))) (fun e => pr_spread hS (by omega) (fun b20 m1 m2 m3 m4 m5 => ?_))⟩) hsz rfl
    · rw [nI_clamp (show i % 20 < 2 ^ 31 by omega)] at e
      exact e
    · refine br_c (fun e0 => ⟨pk_in (i % 20) 40 (by omega), br_c (fun e1 => nm_r (nI_1 i) (hw (1, b20) ?_)) (fun e1 => nm_r (nI_1 i) (hw (0, b20) ?_))⟩) (fun e0 => nm_r (nI_1 i) (hw (1, b20) ?_))
      · exact pr_I_step hf h m1 m2 m3 m4 m5 (Or.inr rfl) (fun _ => rfl) (fun _ => rfl)
      · refine pr_I_step hf h m1 m2 m3 m4 m5 (Or.inl rfl) (fun g => ?_) (fun g => ?_)
        · rw [e0] at g
          exact absurd g (by decide)
        · rw [nI_clamp (show i % 20 < 2 ^ 31 by omega), g] at e1
          exact absurd k2 e1
      · exact pr_I_step hf h m1 m2 m3 m4 m5 (Or.inr rfl) (fun _ => rfl) (fun _ => rfl)
theorem pr_ec {post : Int32 → St2 → Prop} {f : Nat} (hS : pr_St P Q R (nI l) sz a1 a2 a3 a4 a5 a6 a7) (hf : f = 1 ∨ f = 2 ∨ f = 3) (hp : ∀ b20 : Nat → Int32, post 1 (sz, md, hg, sd, a1, a2, a3, a4, a5, a6, a7, a8, a9, a10, a11, a12, a13, a14, a15, a16, a17, a18, a19, b20)) : wpX_endComes post (sz, md, hg, sd, a1, a2, a3, a4, a5, a6, a7, a8, a9, a10, a11, a12, a13, a14, a15, a16, a17, a18, a19, a20) (nI f) := by
  refine pk_loop (σ := Nat → Int32) (fun n i s => wX_endComes_2 post (nI f) sz md hg sd n (nI i) a1 a2 a3 a4 a5 a6 a7 a8 a9 a10 a11 a12 a13 a14 a15 a16 a17 a18 a19 s) (fun i s => f < i → s f = 1) 20 0 a20 (by omega) (fun z => absurd z (by omega)) ?_ ?_
  · intro n s h
    exact pk_le 20 20 (fun _ => pr_ec34 hS hf (h (by omega)) hp) (fun z => absurd z (by omega))
  · intro n i s hi h hw
    refine pk_le 20 i (fun z => absurd z (by omega)) (fun _ => pk_eq i f (fun e => ⟨pk_in i 20 hi, nm_e (nm_r (nI_1 i) (hw _ (fun z => ?_)))⟩) (fun e => ⟨pk_in i 20 hi, nm_e (nm_r (nI_1 i) (hw _ (fun z => ?_)))⟩))
    · rw [nI_clamp (show i < 2 ^ 31 by omega), e]
      exact pk_us
    · rw [nI_clamp (show i < 2 ^ 31 by omega), pk_un (show f ≠ i by omega)]
      exact h (by omega)
theorem pr_cf50 {post : Int32 → St2 → Prop} {f : Nat} (hS : pr_St P Q R (nI l) sz a1 a2 a3 a4 a5 a6 a7) (hf : f = 1 ∨ f = 2 ∨ f = 3) (hp : ∀ b20 : Nat → Int32, post 1 (sz, md, hg, sd, a1, a2, a3, a4, a5, a6, a7, a8, a9, a10, a11, a12, a13, a14, a15, a16, a17, a18, a19, b20)) : wX_canFinish_50 post (nI f) sz md hg sd a1 a2 a3 a4 a5 a6 a7 a8 a9 a10 a11 a12 a13 a14 a15 a16 a17 a18 a19 a20 :=
  pk_le 0 f (fun _ => pr_ec hS hf (fun b20 => br_f (by decide) (hp b20))) (fun z => absurd z (by omega))
/-- canFinish with one role's pick half told -/
theorem pr_cf1 {post : Int32 → St2 → Prop} {j : Nat} (hR : (P = 0 ∧ Q = 1 ∧ R = 2) ∨ (P = 1 ∧ Q = 0 ∧ R = 2) ∨ (P = 2 ∧ Q = 0 ∧ R = 1)) (hS : pr_St P Q R (nI l) sz a1 a2 a3 a4 a5 a6 a7) (h11 : a11 P = nI 3) (h12 : a12 P = 1) (h13 : a13 P = nI j) (hj : j < 2) (hP : a14 P = nI (c + 1)) (hQ : a14 Q = nI c) (hr : a14 R = nI c) (hc : c < 900) (hp : ∀ b20 : Nat → Int32, post 1 (sz, md, hg, sd, a1, a2, a3, a4, a5, a6, a7, a8, a9, a10, a11, a12, a13, a14, a15, a16, a17, a18, a19, b20)) : wpX_canFinish post (sz, md, hg, sd, a1, a2, a3, a4, a5, a6, a7, a8, a9, a10, a11, a12, a13, a14, a15, a16, a17, a18, a19, a20) := by
  have hS' := hS
  obtain ⟨_, k0, k1, k2, k3, k4, o1, o3, q1, b1, g1, g3, g4, h3, t0⟩ := hS
  have hP3 : P < 3 := by omega
  unfold wpX_canFinish
  dsimp only
  refine pr_fmP hR hP hQ hr hc ⟨pk_in P 3 hP3, nm_r (pr_at P h11) (br_f (by decide) ⟨pk_in P 3 hP3, br_f (pr_atn P h12 (by decide)) ⟨pk_in P 3 hP3, pk_eq j 0 (fun z => ⟨pk_in 3 40 (by omega), ?_⟩) (fun z => ⟨pk_in 3 40 (by omega), ?_⟩) (pr_at P h13)⟩⟩)⟩
  · unfold wX_canFinish_49
    rw [pr_at (a := a5) (x := nI 3) 3 g3]
    exact pr_cf50 hS' (Or.inl rfl) hp
  · unfold wX_canFinish_49
    rw [pr_at (a := a6) (x := nI 3) 3 h3]
    exact pr_cf50 hS' (Or.inr (Or.inl rfl)) hp
/-- canFinish at the beginning -/
theorem pr_cf0 {post : Int32 → St2 → Prop} (hS : pr_St P Q R (nI l) sz a1 a2 a3 a4 a5 a6 a7) (h11 : ∀ i, i < 3 → a11 i = nI 3) (h12 : ∀ i, i < 3 → a12 i = 0) (h14 : ∀ i, i < 3 → a14 i = nI 0) (hp : ∀ b20 : Nat → Int32, post 1 (sz, md, hg, sd, a1, a2, a3, a4, a5, a6, a7, a8, a9, a10, a11, a12, a13, a14, a15, a16, a17, a18, a19, b20)) : wpX_canFinish post (sz, md, hg, sd, a1, a2, a3, a4, a5, a6, a7, a8, a9, a10, a11, a12, a13, a14, a15, a16, a17, a18, a19, a20) := by
  unfold wpX_canFinish
  dsimp only
  exact pr_fm0 (c := 0) (h14 0 (by omega)) (h14 1 (by omega)) (h14 2 (by omega)) (by omega) ⟨pk_in 0 3 (by omega), nm_r (pr_at 0 (h11 0 (by omega))) (br_f (by decide) ⟨pk_in 0 3 (by omega), br_t (pr_at 0 (h12 0 (by omega))) (pr_cf50 hS (Or.inr (Or.inr rfl)) hp)⟩)⟩
/-- canFinish at the end -/
theorem pr_cfe {post : Int32 → St2 → Prop} (h11 : ∀ i, i < 3 → a11 i = -1) (h14 : ∀ i, i < 3 → a14 i = nI c) (hc : c < 900) (hp : post 1 (sz, md, hg, sd, a1, a2, a3, a4, a5, a6, a7, a8, a9, a10, a11, a12, a13, a14, a15, a16, a17, a18, a19, a20)) : wpX_canFinish post (sz, md, hg, sd, a1, a2, a3, a4, a5, a6, a7, a8, a9, a10, a11, a12, a13, a14, a15, a16, a17, a18, a19, a20) := by
  unfold wpX_canFinish
  dsimp only
  exact pr_fm0 (c := c) (h14 0 (by omega)) (h14 1 (by omega)) (h14 2 (by omega)) hc ⟨pk_in 0 3 (by omega), nm_r (pr_at 0 (h11 0 (by omega))) (br_t (by decide) (br_f (by decide) (br_t rfl hp)))⟩
end
end
section
/-! ===== restart, making terms ===== -/
theorem pr_fill {s : Nat → Int32} {i k : Nat} {x : Int32} (hk : k = i) (h : ∀ j, j < i → s j = x) : ∀ j, j < i + 1 → upd s k x j = x := by
  intro j hj
  rw [hk]
  by_cases e : j = i
  · rw [e, pk_us]
  · rw [pk_un e]
    exact h j (by omega)
section
variable {sz md hg sd : Int32} {a1 a2 a3 a4 a5 a6 a7 a8 a9 a10 a11 a12 a13 a14 a15 a16 a17 a18 a19 a20 : Nat → Int32} {P Q R l : Nat}
theorem pr_rs56 {post : St2 → Prop} (hp : ∀ b16 b17 : Nat → Int32, (∀ i, i < 9 → b16 i = 0) → (∀ i, i < 9 → b17 i = 0) → post (sz, md, hg, 0, a1, a2, a3, a4, a5, a6, a7, a8, a9, a10, a11, a12, a13, a14, a15, b16, b17, a18, a19, a20)) : ∃ n, wX_restart_56 post sz md hg sd n 0 a1 a2 a3 a4 a5 a6 a7 a8 a9 a10 a11 a12 a13 a14 a15 a16 a17 a18 a19 a20 := by
  refine pk_loop (σ := (Nat → Int32) × (Nat → Int32)) (fun n i s => wX_restart_56 post sz md hg sd n (nI i) a1 a2 a3 a4 a5 a6 a7 a8 a9 a10 a11 a12 a13 a14 a15 (s.1) (s.2) a18 a19 a20) (fun i s => (∀ j, j < i → s.1 j = 0) ∧ (∀ j, j < i → s.2 j = 0)) 9 0 (a16, a17) (by omega) ⟨fun j z => absurd z (by omega), fun j z => absurd z (by omega)⟩ ?_ ?_
  · intro n s h
    exact pk_le 9 9 (fun _ => hp s.1 s.2 h.1 h.2) (fun z => absurd z (by omega))
  · intro n i s hi h hw
    have e : (nI i).toNatClampNeg = i := nI_clamp (by omega)
    exact pk_le 9 i (fun z => absurd z (by omega)) (fun _ => ⟨pk_in i 9 hi, nm_e ⟨pk_in i 9 hi, nm_e (nm_r (nI_1 i) (hw (_, _) ⟨pr_fill e h.1, pr_fill e h.2⟩))⟩⟩)
theorem pr_rs {post : St2 → Prop} {y : Int32} (hy : y.toInt8.toInt32 = y) (hloc : ∀ (ρ : Nat) (ψ : Int32 → Prop) (b11 b12 b14 b15 : Nat → Int32), ψ y → wpX_localFrom ψ (sz, md, hg, sd, a1, a2, a3, a4, a5, a6, a7, a8, a9, a10, b11, b12, a13, b14, b15, a16, a17, a18, a19, a20) (nI ρ) (sz - 1))
    (hp : ∀ b11 b12 b14 b15 b16 b17 : Nat → Int32, (∀ i, i < 3 → b11 i = y) → (∀ i, i < 3 → b12 i = 0) → (∀ i, i < 3 → b14 i = 0) → (∀ i, i < 3 → b15 i = 0) → (∀ i, i < 9 → b16 i = 0) → (∀ i, i < 9 → b17 i = 0) → post (sz, md, hg, 0, a1, a2, a3, a4, a5, a6, a7, a8, a9, a10, b11, b12, a13, b14, b15, b16, b17, a18, a19, a20)) :
    wpX_restart post (sz, md, hg, sd, a1, a2, a3, a4, a5, a6, a7, a8, a9, a10, a11, a12, a13, a14, a15, a16, a17, a18, a19, a20) := by
  refine pk_loop (σ := (Nat → Int32) × (Nat → Int32) × (Nat → Int32) × (Nat → Int32)) (fun n i s => wX_restart_2 post sz md hg sd n (nI i) a1 a2 a3 a4 a5 a6 a7 a8 a9 a10 (s.1) (s.2.1) a13 (s.2.2.1) (s.2.2.2) a16 a17 a18 a19 a20) (fun i s => (∀ j, j < i → s.1 j = y) ∧ (∀ j, j < i → s.2.1 j = 0) ∧ (∀ j, j < i → s.2.2.1 j = 0) ∧ (∀ j, j < i → s.2.2.2 j = 0)) 3 0 (a11, a12, a14, a15) (by omega) ⟨fun j z => absurd z (by omega), fun j z => absurd z (by omega), fun j z => absurd z (by omega), fun j z => absurd z (by omega)⟩ ?_ ?_
  · intro n s h
    exact pk_le 3 3 (fun _ => pr_rs56 (fun b16 b17 e16 e17 => hp s.1 s.2.1 s.2.2.1 s.2.2.2 b16 b17 h.1 h.2.1 h.2.2.1 h.2.2.2 e16 e17)) (fun z => absurd z (by omega))
  · intro n i s hi h hw
    have e : (nI i).toNatClampNeg = i := nI_clamp (by omega)
    refine pk_le 3 i (fun z => absurd z (by omega)) (fun _ => hloc i _ s.1 s.2.1 s.2.2.1 s.2.2.2 ⟨pk_in i 3 hi, nm_e ⟨pk_in i 3 hi, nm_e ⟨pk_in i 3 hi, nm_e ⟨pk_in i 3 hi, nm_e (nm_r (nI_1 i) ?_)⟩⟩⟩⟩)
    rw [hy]
    exact hw (_, _, _, _) ⟨pr_fill e h.1, pr_fill e h.2.1, pr_fill e h.2.2.1, pr_fill e h.2.2.2⟩
theorem pr_init {post : St2 → Prop} (hp : ∀ b11 b12 b14 b15 b16 b17 : Nat → Int32, post (1, 0, 0, 0, (fun _ => 0), (fun _ => 0), (fun _ => 0), (fun _ => 0), (fun _ => 0), (fun _ => 0), (fun _ => 0), (fun _ => 0), (fun _ => 0), (fun _ => 0), b11, b12, (fun _ => 0), b14, b15, b16, b17, (fun _ => 0), (fun _ => 0), (fun _ => 0))) : wpX_init post 137 2168 (0, 0, 0, 0) := by
  refine ⟨by decide, by decide, by decide, by decide, by decide, by decide, by decide, by decide, by decide, by decide, by decide, by decide, by decide, by decide, by decide, by decide, by decide, by decide, by decide, by decide, by decide, by decide, by decide, by decide, by decide, by decide, by decide, by decide, by decide, by decide, by decide, by decide, by decide, by decide, by decide, by decide, by decide, by decide, by decide, by decide, ?_⟩
  refine pr_rs (y := -1) (by decide) (fun ρ ψ b11 b12 b14 b15 hψ => ?_) (fun b11 b12 b14 b15 b16 b17 _ _ _ _ _ _ => hp b11 b12 b14 b15 b16 b17)
  unfold wpX_localFrom
  dsimp only
  rw [show (1 : Int32) - 1 = nI 0 from by decide]
  exact ⟨1, pr_wk_s (k := 0) (i := 0) (by omega) (by omega) (show (0 : Int32) < 3 by decide) ⟨1, pr_le (k := 0) (i := 0) (by omega) (by omega) rfl hψ⟩⟩
theorem pr_mk {post : Int32 → St2 → Prop} {m h tk w a b e g g' : Nat} (hm : m < 20) (hh : h < 20) (htk : tk ≤ 2) (hw : w < 128) (ha : a < 128) (hb : b < 128) (he : e < 128) (hgl : g < 128) (hgl' : g' < 128)
    (h5 : (tk = 0 ∧ g = 0) ∨ (0 < tk ∧ a8 h = nI g)) (h6 : (tk ≤ 1 ∧ g' = 0) ∨ (1 < tk ∧ h + 1 < 20 ∧ a8 (h + 1) = nI g'))
    (hp : post (nI (h + 1)) (sz, nI (m + 1), nI (h + 1), sd, upd a1 (20 + m) (nI w), upd a2 (20 + m) (nI a), upd a3 (20 + m) (nI b), upd a4 (20 + m) (nI e), upd a5 (20 + m) (nI g), upd a6 (20 + m) (nI g'), a7, upd a8 h (nI m), a9, a10, a11, a12, a13, a14, a15, a16, a17, a18, a19, a20)) :
    wpX_make post (sz, nI m, nI (h + tk), sd, a1, a2, a3, a4, a5, a6, a7, a8, a9, a10, a11, a12, a13, a14, a15, a16, a17, a18, a19, a20) (nI w) (nI a) (nI b) (nI e) (nI tk) := by
  have e2 : nI (h + tk) - nI tk = nI h := by rw [pk_sub (Nat.le_add_left tk h), Nat.add_sub_cancel]
  have ec : (nI (20 + m)).toNatClampNeg = 20 + m := nI_clamp (by omega)
  have eh : (nI h).toNatClampNeg = h := nI_clamp (by omega)
  have k109 : ∀ z, z = nI g' → wX_make_109 post z (nI (20 + m)) sz (nI m) (nI h) sd (upd a1 (20 + m) (nI w)) (upd a2 (20 + m) (nI a)) (upd a3 (20 + m) (nI b)) (upd a4 (20 + m) (nI e)) (upd a5 (20 + m) (nI g)) a6 a7 a8 a9 a10 a11 a12 a13 a14 a15 a16 a17 a18 a19 a20 := by
    intro z ez
    exact ⟨pk_in (20 + m) 40 (by omega), nm_r (e' := upd a6 (20 + m) (nI g')) (by rw [ez, ec, pr_nar hgl']) ⟨pk_in h 20 hh, nm_r (e' := upd a8 h (nI m)) (by rw [eh, pr_b8 m (by omega)]) (nm_r (nI_1 h) (nm_r (nI_1 m) hp))⟩⟩
  have k81 : ∀ z, z = nI g → wX_make_81 post (nI tk) (nI (20 + m)) z (nI (20 + m)) sz (nI m) (nI h) sd (upd a1 (20 + m) (nI w)) (upd a2 (20 + m) (nI a)) (upd a3 (20 + m) (nI b)) (upd a4 (20 + m) (nI e)) a5 a6 a7 a8 a9 a10 a11 a12 a13 a14 a15 a16 a17 a18 a19 a20 := by
    intro z ez
    refine ⟨pk_in (20 + m) 40 (by omega), nm_r (e' := upd a5 (20 + m) (nI g)) (by rw [ez, ec, pr_nar hgl]) (pk_le tk 1 (fun q => k109 _ ?_) (fun q => ⟨pk_in (h + 1) 20 (by omega) (nI_1 h), k109 _ ?_⟩))⟩
    · rw [show g' = 0 by omega]
      rfl
    · rcases h6 with h6 | h6
      · omega
      · exact pr_at (h + 1) h6.2.2 (nI_1 h)
  refine nm_r (nI_add 20 m) (nm_r e2 ⟨pk_in (20 + m) 40 (by omega), nm_r (e' := upd a1 (20 + m) (nI w)) (by rw [ec, pr_b8 w hw]) ⟨pk_in (20 + m) 40 (by omega), nm_r (e' := upd a2 (20 + m) (nI a)) (by rw [ec, pr_b8 a ha]) ⟨pk_in (20 + m) 40 (by omega), nm_r (e' := upd a3 (20 + m) (nI b)) (by rw [ec, pr_b8 b hb]) ⟨pk_in (20 + m) 40 (by omega), nm_r (e' := upd a4 (20 + m) (nI e)) (by rw [ec, pr_b8 e he]) ?_⟩⟩⟩⟩)
  refine pk_le tk 0 (fun q => k81 _ ?_) (fun q => ⟨pk_in h 20 hh, k81 _ ?_⟩)
  · rw [show g = 0 by omega]
    rfl
  · rcases h5 with h5 | h5
    · omega
    · exact pr_at h h5.2
/-! the five that the law makes; a state with made = m, height = h -/
theorem pr_again {post : Int32 → St2 → Prop} {m h t : Nat} (hm : m < 20) (hh : h < 20) (ht : t < 2)
    (hp : post (nI (h + 1)) (sz, nI (m + 1), nI (h + 1), sd, upd a1 (20 + m) (nI 4), upd a2 (20 + m) (nI t), upd a3 (20 + m) (nI 0), upd a4 (20 + m) (nI 0), upd a5 (20 + m) (nI 0), upd a6 (20 + m) (nI 0), a7, upd a8 h (nI m), a9, a10, a11, a12, a13, a14, a15, a16, a17, a18, a19, a20)) : wpX_again post (sz, nI m, nI h, sd, a1, a2, a3, a4, a5, a6, a7, a8, a9, a10, a11, a12, a13, a14, a15, a16, a17, a18, a19, a20) (nI t) :=
  pk_lt t 0 (fun z => absurd z (by omega)) (fun _ => pk_le t 1 (fun _ => pk_eq m 20 (fun z => absurd z (by omega)) (fun _ => pr_mk (tk := 0) (w := 4) (a := t) (b := 0) (e := 0) hm hh (by omega) (by omega) (by omega) (by omega) (by omega) (by omega) (by omega) (Or.inl ⟨rfl, rfl⟩) (Or.inl ⟨by omega, rfl⟩) hp)) (fun z => absurd z (by omega)))
theorem pr_message {post : Int32 → St2 → Prop} {m h p q e g : Nat} (hm : m < 20) (hh : h < 20) (hq : p < 3) (hr : q < 3) (hne : p ≠ q) (he : e < 4) (hgl : g < 128) (h8 : a8 h = nI g)
    (hp : post (nI (h + 1)) (sz, nI (m + 1), nI (h + 1), sd, upd a1 (20 + m) (nI 1), upd a2 (20 + m) (nI p), upd a3 (20 + m) (nI q), upd a4 (20 + m) (nI e), upd a5 (20 + m) (nI g), upd a6 (20 + m) (nI 0), a7, upd a8 h (nI m), a9, a10, a11, a12, a13, a14, a15, a16, a17, a18, a19, a20)) : wpX_message post (sz, nI m, nI (h + 1), sd, a1, a2, a3, a4, a5, a6, a7, a8, a9, a10, a11, a12, a13, a14, a15, a16, a17, a18, a19, a20) (nI p) (nI q) (nI e) := by
  unfold wpX_message
  dsimp only
  refine pr_bad hq (br_t rfl (pr_bad hr (br_t rfl (pk_eq p q (fun z => absurd z hne) (fun _ => pk_lt e 0 (fun z => absurd z (by omega)) (fun _ => pk_le e 3 (fun _ => pk_eq m 20 (fun z => absurd z (by omega)) (fun _ => pk_le 1 (h + 1) (fun _ => ?_) (fun z => absurd z (by omega)))) (fun z => absurd z (by omega))))))))
  exact pr_mk (tk := 1) (w := 1) (a := p) (b := q) (e := e) hm hh (by omega) (by omega) (by omega) (by omega) (by omega) hgl (by omega) (Or.inr ⟨by omega, h8⟩) (Or.inl ⟨by omega, rfl⟩) hp
theorem pr_end {post : Int32 → St2 → Prop} {m h : Nat} (hm : m < 20) (hh : h < 20)
    (hp : post (nI (h + 1)) (sz, nI (m + 1), nI (h + 1), sd, upd a1 (20 + m) (nI 0), upd a2 (20 + m) (nI 0), upd a3 (20 + m) (nI 0), upd a4 (20 + m) (nI 0), upd a5 (20 + m) (nI 0), upd a6 (20 + m) (nI 0), a7, upd a8 h (nI m), a9, a10, a11, a12, a13, a14, a15, a16, a17, a18, a19, a20)) : wpX_end post (sz, nI m, nI h, sd, a1, a2, a3, a4, a5, a6, a7, a8, a9, a10, a11, a12, a13, a14, a15, a16, a17, a18, a19, a20) :=
  pk_eq m 20 (fun z => absurd z (by omega)) (fun _ => pr_mk (tk := 0) (w := 0) (a := 0) (b := 0) (e := 0) hm hh (by omega) (by omega) (by omega) (by omega) (by omega) (by omega) (by omega) (Or.inl ⟨rfl, rfl⟩) (Or.inl ⟨by omega, rfl⟩) hp)
theorem pr_choose {post : Int32 → St2 → Prop} {m h p g g' : Nat} (hm : m < 20) (hh : h + 1 < 20) (hq : p < 3) (hgl : g < 128) (hgl' : g' < 128) (h8 : a8 h = nI g) (h8' : a8 (h + 1) = nI g')
    (hp : post (nI (h + 1)) (sz, nI (m + 1), nI (h + 1), sd, upd a1 (20 + m) (nI 2), upd a2 (20 + m) (nI p), upd a3 (20 + m) (nI 0), upd a4 (20 + m) (nI 0), upd a5 (20 + m) (nI g), upd a6 (20 + m) (nI g'), a7, upd a8 h (nI m), a9, a10, a11, a12, a13, a14, a15, a16, a17, a18, a19, a20)) : wpX_choose post (sz, nI m, nI (h + 2), sd, a1, a2, a3, a4, a5, a6, a7, a8, a9, a10, a11, a12, a13, a14, a15, a16, a17, a18, a19, a20) (nI p) := by
  unfold wpX_choose
  dsimp only
  refine pr_bad hq (br_t rfl (pk_eq m 20 (fun z => absurd z (by omega)) (fun _ => pk_le 2 (h + 2) (fun _ => ?_) (fun z => absurd z (by omega)))))
  exact pr_mk (tk := 2) (w := 2) (a := p) (b := 0) (e := 0) hm (by omega) (by omega) (by omega) (by omega) (by omega) (by omega) hgl hgl' (Or.inr ⟨by omega, h8⟩) (Or.inr ⟨by omega, hh, h8'⟩) hp
theorem pr_loop {post : Int32 → St2 → Prop} {m h t g : Nat} (hm : m < 20) (hh : h < 20) (ht : t < 2) (hgl : g < 128) (h8 : a8 h = nI g)
    (hp : post (nI (h + 1)) (sz, nI (m + 1), nI (h + 1), sd, upd a1 (20 + m) (nI 3), upd a2 (20 + m) (nI t), upd a3 (20 + m) (nI 0), upd a4 (20 + m) (nI 0), upd a5 (20 + m) (nI g), upd a6 (20 + m) (nI 0), a7, upd a8 h (nI m), a9, a10, a11, a12, a13, a14, a15, a16, a17, a18, a19, a20)) : wpX_loop post (sz, nI m, nI (h + 1), sd, a1, a2, a3, a4, a5, a6, a7, a8, a9, a10, a11, a12, a13, a14, a15, a16, a17, a18, a19, a20) (nI t) :=
  pk_lt t 0 (fun z => absurd z (by omega)) (fun _ => pk_le t 1 (fun _ => pk_eq m 20 (fun z => absurd z (by omega)) (fun _ => pk_le 1 (h + 1) (fun _ => pr_mk (tk := 1) (w := 3) (a := t) (b := 0) (e := 0) hm hh (by omega) (by omega) (by omega) (by omega) (by omega) hgl (by omega) (Or.inr ⟨by omega, h8⟩) (Or.inl ⟨by omega, rfl⟩) hp) (fun z => absurd z (by omega)))) (fun z => absurd z (by omega)))
end
end
section
/-! ===== badLoops, protocol ===== -/
/-- the terms as made, from place 20 on -/
def pr_M (P Q R t l : Nat) (a1 a2 a3 a4 a5 a6 : Nat → Int32) : Prop :=
  a1 20 = nI 4 ∧ a1 21 = nI 1 ∧ a1 22 = nI 0 ∧ a1 23 = nI 2 ∧ a1 24 = nI 3 ∧ a2 20 = nI t ∧ a2 21 = nI Q ∧ a2 23 = nI P ∧ a2 24 = nI t ∧ a3 21 = nI R ∧ a4 21 = nI l ∧ a5 21 = nI 0 ∧ a5 23 = nI 1 ∧ a5 24 = nI 3 ∧ a6 23 = nI 2
theorem pr_2i (p i : Nat) : (2 : Int32) * nI p + nI i = nI (2 * p + i) := by
  rw [← nI_add (2 * p), ← pk_mul]
  rfl
section
variable {sz md hg sd : Int32} {a1 a2 a3 a4 a5 a6 a7 a8 a9 a10 a11 a12 a13 a14 a15 a16 a17 a18 a19 a20 : Nat → Int32} {P Q R l t : Nat}
/-- a part of a term that acts -/
theorem pr_sua {post : St2 → Prop} {pt w : Nat} (hpt : pt < 20) (hw : w < 20) (hne : pt ≠ w) (ht : t < 2) (h1 : ¬ a1 (20 + w) = 3) (h9 : a9 (2 * w + t) = nI 4)
    (hp : ∀ b9 b10 : Nat → Int32, b9 (2 * pt + t) = nI 4 → b10 (2 * pt + t) = 1 → (∀ j, j ≠ 2 * pt → j ≠ 2 * pt + 1 → b9 j = a9 j ∧ b10 j = a10 j) → post (sz, md, hg, sd, a1, a2, a3, a4, a5, a6, a7, a8, b9, b10, a11, a12, a13, a14, a15, a16, a17, a18, a19, a20)) : wpX_surround post (sz, md, hg, sd, a1, a2, a3, a4, a5, a6, a7, a8, a9, a10, a11, a12, a13, a14, a15, a16, a17, a18, a19, a20) (nI pt) (nI w) := by
  have e1 : ¬ a1 (nI (20 + w)).toNatClampNeg = 3 := by
    rw [nI_clamp (show 20 + w < 2 ^ 31 by omega)]
    exact h1
  refine nm_r (nI_add 20 w) ⟨pk_in (20 + w) 40 (by omega), br_f e1 ?_⟩
  refine pk_loop (σ := (Nat → Int32) × (Nat → Int32)) (fun n i s => wX_surround_25 post (nI pt) (nI w) (nI (20 + w)) 1 sz md hg sd n (nI i) a1 a2 a3 a4 a5 a6 a7 a8 (s.1) (s.2) a11 a12 a13 a14 a15 a16 a17 a18 a19 a20) (fun i s => (∀ j, j ≠ 2 * pt → j ≠ 2 * pt + 1 → s.1 j = a9 j ∧ s.2 j = a10 j) ∧ (t < i → s.1 (2 * pt + t) = nI 4 ∧ s.2 (2 * pt + t) = 1)) 2 0 (a9, a10) (by omega) ⟨fun j _ _ => ⟨rfl, rfl⟩, fun z => absurd z (by omega)⟩ ?_ ?_
  · intro n s ⟨f1, f2⟩
    exact pk_le 2 2 (fun _ => ⟨pk_in (20 + w) 40 (by omega), br_f e1 (hp s.1 s.2 (f2 ht).1 (f2 ht).2 f1)⟩) (fun z => absurd z (by omega))
  · intro n i s hi ⟨f1, f2⟩ hk
    have ew := pr_2i w i
    have ep := pr_2i pt i
    have cw : (nI (2 * w + i)).toNatClampNeg = 2 * w + i := nI_clamp (by omega)
    have cp : (nI (2 * pt + i)).toNatClampNeg = 2 * pt + i := nI_clamp (by omega)
    have inv : (∀ j, j ≠ 2 * pt → j ≠ 2 * pt + 1 → upd s.1 (2 * pt + i) (vp_nar .byte (s.1 (2 * w + i))) j = a9 j ∧ upd s.2 (2 * pt + i) 1 j = a10 j) ∧ (t < i + 1 → upd s.1 (2 * pt + i) (vp_nar .byte (s.1 (2 * w + i))) (2 * pt + t) = nI 4 ∧ upd s.2 (2 * pt + i) 1 (2 * pt + t) = 1) := by
      refine ⟨fun j j1 j2 => ?_, fun z => ?_⟩
      · rw [pk_un (show j ≠ 2 * pt + i by omega), pk_un (show j ≠ 2 * pt + i by omega)]
        exact f1 j j1 j2
      · by_cases e : t = i
        · rw [e, pk_us, pk_us, (f1 (2 * w + i) (by omega) (by omega)).1, ← e, h9, pr_nar (by omega)]
          exact ⟨rfl, rfl⟩
        · rw [pk_un (show 2 * pt + t ≠ 2 * pt + i by omega), pk_un (show 2 * pt + t ≠ 2 * pt + i by omega)]
          exact f2 (by omega)
    have go : wX_surround_25 post (nI pt) (nI w) (nI (20 + w)) 1 sz md hg sd n (nI (i + 1)) a1 a2 a3 a4 a5 a6 a7 a8 (upd s.1 (2 * pt + i) (vp_nar .byte (s.1 (2 * w + i)))) (upd s.2 (2 * pt + i) 1) a11 a12 a13 a14 a15 a16 a17 a18 a19 a20 := hk (_, _) inv
    refine pk_le 2 i (fun z => absurd z (by omega)) (fun _ => ⟨pk_in (2 * w + i) 40 (by omega) ew, pk_in (2 * pt + i) 40 (by omega) ep, nm_r (e' := upd s.1 (2 * pt + i) (vp_nar .byte (s.1 (2 * w + i)))) (by rw [ew, ep, cw, cp]) ⟨pk_in (2 * w + i) 40 (by omega) ew, br_c (fun _ => br_f (by decide) ⟨pk_in (2 * pt + i) 40 (by omega) ep, nm_r (e' := upd s.2 (2 * pt + i) 1) (by rw [ep, cp]) (nm_r (nI_1 i) go)⟩) (fun _ => ⟨pk_in (2 * pt + i) 40 (by omega) ep, nm_r (e' := upd s.2 (2 * pt + i) 1) (by rw [ep, cp]) (nm_r (nI_1 i) go)⟩)⟩⟩)
/-- the part of a loop -/
theorem pr_sul {post : St2 → Prop} {pt w : Nat} (hpt : pt < 19) (hw : w < 19) (ht : t < 2) (h1 : a1 (20 + w) = 3) (h2 : a2 (20 + w) = nI t)
    (hp : ∀ b9 b10 : Nat → Int32, b9 (2 * pt + t) = nI w → post (sz, md, hg, sd, a1, a2, a3, a4, a5, a6, a7, a8, b9, b10, a11, a12, a13, a14, a15, a16, a17, a18, a19, a20)) : wpX_surround post (sz, md, hg, sd, a1, a2, a3, a4, a5, a6, a7, a8, a9, a10, a11, a12, a13, a14, a15, a16, a17, a18, a19, a20) (nI pt) (nI w) := by
  refine nm_r (nI_add 20 w) ⟨pk_in (20 + w) 40 (by omega), br_t (pr_at (20 + w) h1) ?_⟩
  refine pk_loop (σ := (Nat → Int32) × (Nat → Int32)) (fun n i s => wX_surround_25 post (nI pt) (nI w) (nI (20 + w)) 0 sz md hg sd n (nI i) a1 a2 a3 a4 a5 a6 a7 a8 (s.1) (s.2) a11 a12 a13 a14 a15 a16 a17 a18 a19 a20) (fun i s => True) 2 0 (a9, a10) (by omega) trivial ?_ ?_
  · intro n s _
    have ep : (2 : Int32) * nI pt + a2 (nI (20 + w)).toNatClampNeg = nI (2 * pt + t) := by
      rw [pr_at (a := a2) (x := nI (20 + w)) (20 + w) h2]
      exact pr_2i pt t
    have cp : (nI (2 * pt + t)).toNatClampNeg = 2 * pt + t := nI_clamp (by omega)
    exact pk_le 2 2 (fun _ => ⟨pk_in (20 + w) 40 (by omega), br_t (pr_at (20 + w) h1) ⟨pk_in (20 + w) 40 (by omega), pk_in (2 * pt + t) 40 (by omega) ep, nm_r (e' := upd s.1 (2 * pt + t) (nI w)) (by rw [ep, cp, pr_b8 w (by omega)]) ⟨pk_in (20 + w) 40 (by omega), pk_in (2 * pt + t) 40 (by omega) ep, nm_e (hp _ _ pk_us)⟩⟩⟩) (fun z => absurd z (by omega))
  · intro n i s hi _ hk
    have ew := pr_2i w i
    have ep := pr_2i pt i
    exact pk_le 2 i (fun z => absurd z (by omega)) (fun _ => ⟨pk_in (2 * w + i) 40 (by omega) ew, pk_in (2 * pt + i) 40 (by omega) ep, nm_e ⟨pk_in (2 * w + i) 40 (by omega) ew, br_c (fun _ => br_t rfl ⟨pk_in (2 * pt + i) 40 (by omega) ep, nm_e (nm_r (nI_1 i) (hk (_, _) trivial))⟩) (fun _ => ⟨pk_in (2 * pt + i) 40 (by omega) ep, nm_e (nm_r (nI_1 i) (hk (_, _) trivial))⟩)⟩⟩)
/-! badLoops, a term at a time -/
theorem pr_bl0 {post : Int32 → St2 → Prop} {n : Nat} (ht : t < 2) (h1 : a1 20 = nI 4) (h2 : a2 20 = nI t) (h9 : a9 t = nI 4) (h10 : a10 t = 1) (hp : post 0 (sz, md, hg, sd, a1, a2, a3, a4, a5, a6, a7, a8, a9, a10, a11, a12, a13, a14, a15, a16, a17, a18, a19, a20)) : wX_badLoops_54 post (n + 2) 0 (nI 0) sz md hg sd a1 a2 a3 a4 a5 a6 a7 a8 a9 a10 a11 a12 a13 a14 a15 a16 a17 a18 a19 a20 := by
  have e5 : (2 : Int32) * nI 0 + a2 (nI 20).toNatClampNeg = nI t := by
    rw [pr_at (a := a2) (x := nI 20) 20 h2, pr_2i 0 t, Nat.mul_zero, Nat.zero_add]
  refine br_f (by decide) (nm_r (nI_add 20 0) ⟨pk_in 20 40 (by omega), nm_r (pr_at 20 h1) (br_f (by decide) (br_f (by decide) (br_f (by decide) (br_f (by decide) (br_t (by decide) ⟨pk_in 20 40 (by omega), nm_r e5 (br_t rfl ⟨pk_in t 40 (by omega), br_f (by rw [pr_at t h9]; decide) ⟨pk_in t 40 (by omega), br_f (pr_atn t h10 (by decide)) (nm_r (e' := -1) (by decide) ?_)⟩⟩)⟩)))))⟩)
  exact br_t (by decide) ⟨by rfl, hp⟩
theorem pr_bl1 {post : Int32 → St2 → Prop} {n : Nat} (ht : t < 2) (h1 : a1 21 = nI 1) (h5 : a5 21 = nI 0) (h9 : a9 (2 + t) = nI 4) (hw : ∀ b9 b10 : Nat → Int32, b9 t = nI 4 → b10 t = 1 → wX_badLoops_54 post n 0 (nI 0) sz md hg sd a1 a2 a3 a4 a5 a6 a7 a8 b9 b10 a11 a12 a13 a14 a15 a16 a17 a18 a19 a20) : wX_badLoops_54 post (n + 1) 0 (nI 1) sz md hg sd a1 a2 a3 a4 a5 a6 a7 a8 a9 a10 a11 a12 a13 a14 a15 a16 a17 a18 a19 a20 := by
  refine br_f (by decide) (nm_r (nI_add 20 1) ⟨pk_in 21 40 (by omega), nm_r (pr_at 21 h1) (br_t rfl ⟨pk_in 21 40 (by omega), ?_⟩)⟩)
  rw [pr_at (a := a5) (x := nI (20 + 1)) 21 h5]
  refine pr_sua (t := t) (pt := 0) (w := 1) (by omega) (by omega) (by omega) ht (by rw [h1]; decide) h9 (fun b9 b10 e9 e10 _ => br_f (by decide) (br_f (by decide) (nm_r (pk_m1 0) ?_)))
  rw [Nat.mul_zero, Nat.zero_add] at e9 e10
  exact hw b9 b10 e9 e10
theorem pr_bl2 {post : Int32 → St2 → Prop} {n : Nat} (h1 : a1 22 = nI 0) (hw : wX_badLoops_54 post n 0 (nI 1) sz md hg sd a1 a2 a3 a4 a5 a6 a7 a8 a9 a10 a11 a12 a13 a14 a15 a16 a17 a18 a19 a20) : wX_badLoops_54 post (n + 1) 0 (nI 2) sz md hg sd a1 a2 a3 a4 a5 a6 a7 a8 a9 a10 a11 a12 a13 a14 a15 a16 a17 a18 a19 a20 :=
  br_f (by decide) (nm_r (nI_add 20 2) ⟨pk_in 22 40 (by omega), nm_r (pr_at 22 h1) (br_f (by decide) (br_f (by decide) (br_f (by decide) (br_f (by decide) (br_f (by decide) (nm_r (pk_m1 1) hw))))))⟩)
theorem pr_bl3 {post : Int32 → St2 → Prop} {n : Nat} (ht : t < 2) (h1 : a1 23 = nI 2) (h5 : a5 23 = nI 1) (h6 : a6 23 = nI 2) (h9 : a9 (6 + t) = nI 4) (hw : ∀ b9 b10 : Nat → Int32, b9 (2 + t) = nI 4 → wX_badLoops_54 post n 0 (nI 2) sz md hg sd a1 a2 a3 a4 a5 a6 a7 a8 b9 b10 a11 a12 a13 a14 a15 a16 a17 a18 a19 a20) : wX_badLoops_54 post (n + 1) 0 (nI 3) sz md hg sd a1 a2 a3 a4 a5 a6 a7 a8 a9 a10 a11 a12 a13 a14 a15 a16 a17 a18 a19 a20 := by
  have h1' : ¬ a1 (20 + 3) = 3 := by
    rw [h1]
    decide
  refine br_f (by decide) (nm_r (nI_add 20 3) ⟨pk_in 23 40 (by omega), nm_r (pr_at 23 h1) (br_f (by decide) (br_t rfl ⟨pk_in 23 40 (by omega), ?_⟩))⟩)
  rw [pr_at (a := a5) (x := nI (20 + 3)) 23 h5]
  refine pr_sua (t := t) (pt := 1) (w := 3) (by omega) (by omega) (by omega) ht h1' h9 (fun b9 b10 e9 e10 fr => br_t rfl ⟨pk_in 23 40 (by omega), ?_⟩)
  rw [pr_at (a := a6) (x := nI (20 + 3)) 23 h6]
  have f9 : b9 (2 * 3 + t) = nI 4 := by
    rw [(fr (2 * 3 + t) (by omega) (by omega)).1]
    exact h9
  refine pr_sua (t := t) (pt := 2) (w := 3) (by omega) (by omega) (by omega) ht h1' f9 (fun c9 c10 _ _ fr2 => br_f (by decide) (nm_r (pk_m1 2) (hw c9 c10 ?_)))
  rw [(fr2 (2 + t) (by omega) (by omega)).1]
  exact e9
theorem pr_bl4 {post : Int32 → St2 → Prop} {n : Nat} (ht : t < 2) (h1 : a1 24 = nI 3) (h2 : a2 24 = nI t) (h5 : a5 24 = nI 3) (hw : ∀ b9 b10 : Nat → Int32, b9 (6 + t) = nI 4 → wX_badLoops_54 post n 0 (nI 3) sz md hg sd a1 a2 a3 a4 a5 a6 a7 a8 b9 b10 a11 a12 a13 a14 a15 a16 a17 a18 a19 a20) : wX_badLoops_54 post (n + 1) 0 (nI 4) sz md hg sd a1 a2 a3 a4 a5 a6 a7 a8 a9 a10 a11 a12 a13 a14 a15 a16 a17 a18 a19 a20 := by
  refine br_f (by decide) (nm_r (nI_add 20 4) ⟨pk_in 24 40 (by omega), nm_r (pr_at 24 h1) (br_f (by decide) (br_f (by decide) (br_t rfl ⟨pk_in 24 40 (by omega), ?_⟩)))⟩)
  rw [pr_at (a := a5) (x := nI (20 + 4)) 24 h5]
  exact pr_sul (t := t) (pt := 3) (w := 4) (by omega) (by omega) ht h1 h2 (fun b9 b10 e9 => br_f (by decide) (br_f (by decide) (nm_r (pk_m1 3) (hw b9 b10 e9))))
theorem pr_bl {post : Int32 → St2 → Prop} (ht : t < 2) (hM : pr_M P Q R t l a1 a2 a3 a4 a5 a6) (hp : ∀ b9 b10 : Nat → Int32, b9 t = nI 4 → post 0 (sz, nI 5, hg, sd, a1, a2, a3, a4, a5, a6, a7, a8, b9, b10, a11, a12, a13, a14, a15, a16, a17, a18, a19, a20)) : wpX_badLoops post (sz, nI 5, hg, sd, a1, a2, a3, a4, a5, a6, a7, a8, a9, a10, a11, a12, a13, a14, a15, a16, a17, a18, a19, a20) := by
  obtain ⟨k0, k1, k2, k3, k4, o0, o1, o3, o4, q1, l1, g1, g3, g4, h3⟩ := hM
  refine pk_loop (σ := (Nat → Int32) × (Nat → Int32)) (fun n i s => wX_badLoops_4 post 0 sz (nI 5) hg sd n (nI i) a1 a2 a3 a4 a5 a6 a7 a8 (s.1) (s.2) a11 a12 a13 a14 a15 a16 a17 a18 a19 a20) (fun _ _ => True) 2 0 (a9, a10) (by omega) trivial ?_ ?_
  · intro n s _
    refine pk_le 2 2 (fun _ => nm_r (nI_pred 4) ⟨6, ?_⟩) (fun z => absurd z (by omega))
    exact pr_bl4 ht k4 o4 g4 (fun b9 b10 e9 => pr_bl3 ht k3 g3 h3 e9 (fun c9 c10 e9' => pr_bl2 k2 (pr_bl1 ht k1 g1 e9' (fun d9 d10 f9 f10 => pr_bl0 ht k0 o0 f9 f10 (hp d9 d10 f9)))))
  · intro n i s hi _ hk
    have e : (2 : Int32) * (nI 5 - 1) + nI i = nI (8 + i) := by
      rw [show nI 5 - 1 = nI 4 from nI_pred 4]
      exact pr_2i 4 i
    exact pk_le 2 i (fun z => absurd z (by omega)) (fun _ => ⟨pk_in (8 + i) 40 (by omega) e, nm_e ⟨pk_in (8 + i) 40 (by omega) e, nm_e (nm_r (nI_1 i) (hk (_, _) trivial))⟩⟩)
end
/-- c is a, its places 20.. copied to 0.. up to i -/
def pr_cp (i : Nat) (a c : Nat → Int32) : Prop := (∀ j, 20 ≤ j → c j = a j) ∧ (∀ j, j < i → c j = vp_nar .byte (a (20 + j)))
theorem pr_cp0 (a : Nat → Int32) : pr_cp 0 a a := ⟨fun _ _ => rfl, fun j z => absurd z (by omega)⟩
theorem pr_cp1 {i : Nat} {a c : Nat → Int32} (hi : i < 20) (h : pr_cp i a c) : pr_cp (i + 1) a (upd c (nI i).toNatClampNeg (vp_nar .byte (c (nI (20 + i)).toNatClampNeg))) := by
  rw [nI_clamp (show i < 2 ^ 31 by omega), nI_clamp (show 20 + i < 2 ^ 31 by omega), h.1 (20 + i) (by omega)]
  refine ⟨fun j hj => ?_, fun j hj => ?_⟩
  · rw [pk_un (show j ≠ i by omega)]
    exact h.1 j hj
  · by_cases e : j = i
    · rw [e, pk_us]
    · rw [pk_un e]
      exact h.2 j (by omega)
theorem pr_cpv {i j n : Nat} {a c : Nat → Int32} (h : pr_cp i a c) (hj : j < i) (hn : n < 128) (ha : a (20 + j) = nI n) : c j = nI n := by
  rw [h.2 j hj, ha, pr_nar hn]
section
variable {sz md hg sd : Int32} {a1 a2 a3 a4 a5 a6 a7 a8 a9 a10 a11 a12 a13 a14 a15 a16 a17 a18 a19 a20 : Nat → Int32} {P Q R l t : Nat}
theorem pr_protocol {post : Int32 → St2 → Prop} (hR : (P = 0 ∧ Q = 1 ∧ R = 2) ∨ (P = 1 ∧ Q = 0 ∧ R = 2) ∨ (P = 2 ∧ Q = 0 ∧ R = 1)) (ht : t < 2) (hl : l < 4) (hM : pr_M P Q R t l a1 a2 a3 a4 a5 a6)
    (hp : ∀ b1 b2 b3 b4 b5 b6 b7 b9 b10 b11 b12 b14 b15 b16 b17 : Nat → Int32, pr_St P Q R (nI l) (nI 5) b1 b2 b3 b4 b5 b6 b7 → (∀ i, i < 3 → b11 i = nI 3) → (∀ i, i < 3 → b12 i = 0) → (∀ i, i < 3 → b14 i = 0) → (∀ i, i < 3 → b15 i = 0) → (∀ i, i < 9 → b16 i = 0) → (∀ i, i < 9 → b17 i = 0) → post (nI 5) (nI 5, 0, 0, 0, b1, b2, b3, b4, b5, b6, b7, a8, b9, b10, b11, b12, a13, b14, b15, b16, b17, a18, a19, a20)) :
    wpX_protocol post (sz, nI 5, nI 1, sd, a1, a2, a3, a4, a5, a6, a7, a8, a9, a10, a11, a12, a13, a14, a15, a16, a17, a18, a19, a20) := by
  refine br_t rfl (pr_bl ht hM (fun b9 b10 e9 => br_t rfl ?_))
  obtain ⟨k0, k1, k2, k3, k4, o0, o1, o3, o4, q1, l1, g1, g3, g4, h3⟩ := hM
  have hk : ∀ i, i < 5 → a1 (20 + i) = 4 → i = 0 := by
    intro i hi e
    match i, hi, e with
    | 0, _, _ => rfl
    | 1, _, e => exact absurd (k1.symm.trans e) (by decide)
    | 2, _, e => exact absurd (k2.symm.trans e) (by decide)
    | 3, _, e => exact absurd (k3.symm.trans e) (by decide)
    | 4, _, e => exact absurd (k4.symm.trans e) (by decide)
  refine pk_loop (σ := (Nat → Int32) × (Nat → Int32) × (Nat → Int32) × (Nat → Int32) × (Nat → Int32) × (Nat → Int32) × (Nat → Int32)) (fun n i s => wX_protocol_25 post sz (nI 5) (nI 1) sd n (nI i) (s.1) (s.2.1) (s.2.2.1) (s.2.2.2.1) (s.2.2.2.2.1) (s.2.2.2.2.2.1) (s.2.2.2.2.2.2) a8 b9 b10 a11 a12 a13 a14 a15 a16 a17 a18 a19 a20)
    (fun i s => pr_cp i a1 s.1 ∧ pr_cp i a2 s.2.1 ∧ pr_cp i a3 s.2.2.1 ∧ pr_cp i a4 s.2.2.2.1 ∧ pr_cp i a5 s.2.2.2.2.1 ∧ pr_cp i a6 s.2.2.2.2.2.1 ∧ (0 < i → s.2.2.2.2.2.2 0 = nI 4)) 5 0 (a1, a2, a3, a4, a5, a6, a7) (by omega) ⟨pr_cp0 a1, pr_cp0 a2, pr_cp0 a3, pr_cp0 a4, pr_cp0 a5, pr_cp0 a6, fun z => absurd z (by omega)⟩ ?_ ?_
  · intro n s ⟨c1, c2, c3, c4, c5, c6, c7⟩
    have hS : pr_St P Q R (nI l) (nI 5) s.1 s.2.1 s.2.2.1 s.2.2.2.1 s.2.2.2.2.1 s.2.2.2.2.2.1 s.2.2.2.2.2.2 :=
      ⟨rfl, pr_cpv c1 (j := 0) (n := 4) (by omega) (by omega) k0, pr_cpv c1 (j := 1) (n := 1) (by omega) (by omega) k1, pr_cpv c1 (j := 2) (n := 0) (by omega) (by omega) k2, pr_cpv c1 (j := 3) (n := 2) (by omega) (by omega) k3, pr_cpv c1 (j := 4) (n := 3) (by omega) (by omega) k4, pr_cpv c2 (j := 1) (by omega) (by omega) o1, pr_cpv c2 (j := 3) (by omega) (by omega) o3, pr_cpv c3 (j := 1) (by omega) (by omega) q1, pr_cpv c4 (j := 1) (by omega) (by omega) l1, pr_cpv c5 (j := 1) (by omega) (by omega) g1, pr_cpv c5 (j := 3) (by omega) (by omega) g3, pr_cpv c5 (j := 4) (by omega) (by omega) g4, pr_cpv c6 (j := 3) (by omega) (by omega) h3, c7 (by omega)⟩
    refine pk_le 5 5 (fun _ => ?_) (fun z => absurd z (by omega))
    unfold wpX_discard
    dsimp only
    refine pr_rs (y := nI 3) (pr_b8 3 (by omega)) (fun ρ ψ b11 b12 b14 b15 hψ => ?_) (fun b11 b12 b14 b15 b16 b17 e11 e12 e14 e15 e16 e17 => hp s.1 s.2.1 s.2.2.1 s.2.2.2.1 s.2.2.2.2.1 s.2.2.2.2.2.1 s.2.2.2.2.2.2 b9 b10 b11 b12 b14 b15 b16 b17 hS e11 e12 e14 e15 e16 e17)
    rw [show nI 5 - 1 = nI 4 from nI_pred 4]
    exact pr_lf4 hS hψ
  · intro n i s hi ⟨c1, c2, c3, c4, c5, c6, c7⟩ hw
    have ci : (nI i).toNatClampNeg = i := nI_clamp (by omega)
    have ck : (nI (20 + i)).toNatClampNeg = 20 + i := nI_clamp (by omega)
    have d1 := pr_cp1 (by omega) c1
    have d2 := pr_cp1 (by omega) c2
    have ea : upd s.1 (nI i).toNatClampNeg (vp_nar .byte (s.1 (nI (20 + i)).toNatClampNeg)) (nI (20 + i)).toNatClampNeg = a1 (20 + i) := pr_at (x := nI (20 + i)) (20 + i) (d1.1 (20 + i) (by omega))
    refine pk_le 5 i (fun z => absurd z (by omega)) (fun _ => nm_r (nI_add 20 i) ⟨pk_in (20 + i) 40 (by omega), pk_in i 40 (by omega), nm_e ⟨pk_in (20 + i) 40 (by omega), pk_in i 40 (by omega), nm_e ⟨pk_in (20 + i) 40 (by omega), pk_in i 40 (by omega), nm_e ⟨pk_in (20 + i) 40 (by omega), pk_in i 40 (by omega), nm_e ⟨pk_in (20 + i) 40 (by omega), pk_in i 40 (by omega), nm_e ⟨pk_in (20 + i) 40 (by omega), pk_in i 40 (by omega), nm_e ⟨pk_in (20 + i) 40 (by omega), br_c (fun e => ?_) (fun e => ?_)⟩⟩⟩⟩⟩⟩⟩)
    · have i0 := hk i hi (ea.symm.trans e)
      have ex : (2 : Int32) * nI i + upd s.2.1 (nI i).toNatClampNeg (vp_nar .byte (s.2.1 (nI (20 + i)).toNatClampNeg)) (nI (20 + i)).toNatClampNeg = nI t := by
        rw [pr_at (x := nI (20 + i)) (20 + i) (d2.1 (20 + i) (by omega)), i0]
        show (2 : Int32) * nI 0 + a2 20 = nI t
        rw [o0, pr_2i 0 t, Nat.mul_zero, Nat.zero_add]
      have h7 : upd s.2.2.2.2.2.2 i (nI 4) 0 = nI 4 := by
        rw [i0]
        exact pk_us
      exact ⟨pk_in (20 + i) 40 (by omega), pk_in t 40 (by omega) ex, pk_in i 20 (by omega), nm_r (e' := upd s.2.2.2.2.2.2 i (nI 4)) (by rw [ex, ci, nI_clamp (show t < 2 ^ 31 by omega), e9, pr_nar (by omega)]) (nm_r (nI_1 i) (hw (_, _, _, _, _, _, _) ⟨d1, d2, pr_cp1 (by omega) c3, pr_cp1 (by omega) c4, pr_cp1 (by omega) c5, pr_cp1 (by omega) c6, fun _ => h7⟩))⟩
    · have i0 : i ≠ 0 := by
        intro i0
        refine e (ea.trans ?_)
        rw [i0]
        exact k0
      have h7 : upd s.2.2.2.2.2.2 i 0 0 = nI 4 := by
        rw [pk_un (show 0 ≠ i by omega)]
        exact c7 (by omega)
      exact ⟨pk_in i 20 (by omega), nm_r (e' := upd s.2.2.2.2.2.2 i 0) (by rw [ci]) (nm_r (nI_1 i) (hw (_, _, _, _, _, _, _) ⟨d1, d2, pr_cp1 (by omega) c3, pr_cp1 (by omega) c4, pr_cp1 (by omega) c5, pr_cp1 (by omega) c6, fun _ => h7⟩))⟩
end
end
section
/-! ===== one turn of the law's loop ===== -/
theorem pr_q0l {k : Nat} {a16 a17 : Nat → Int32} (h : pr_q0 k a16 a17) : a17 k = nI 0 := by
  obtain ⟨_, _, _, e⟩ := h
  exact e
theorem pr_q1l {k : Nat} {x v : Int32} {a16 a17 a18 a19 : Nat → Int32} (h : pr_q1 k x v a16 a17 a18 a19) : a17 k = nI 1 := by
  obtain ⟨_, _, _, e, _⟩ := h
  exact e
theorem pr_q00 {k : Nat} {a16 a17 : Nat → Int32} (h : ∀ i, i < 9 → a16 i = 0) (h' : ∀ i, i < 9 → a17 i = 0) (hk : k < 9) : pr_q0 k a16 a17 := ⟨0, by omega, h k hk, h' k hk⟩
/-- the turn's head: all wait at the choose, which each has passed c times -/
def pr_A (P Q R c : Nat) (a11 a12 a14 a16 a17 : Nat → Int32) : Prop :=
  a11 P = nI 3 ∧ a11 Q = nI 3 ∧ a11 R = nI 3 ∧ a12 P = 0 ∧ a14 P = nI c ∧ a14 Q = nI c ∧ a14 R = nI c ∧ pr_q0 (3 * P + Q) a16 a17 ∧ pr_q0 (3 * P + R) a16 a17 ∧ pr_q0 (3 * Q + R) a16 a17
section
variable {sz md hg sd : Int32} {a1 a2 a3 a4 a5 a6 a7 a8 a9 a10 a11 a12 a13 a14 a15 a16 a17 a18 a19 a20 : Nat → Int32} {P Q R l : Nat} {x2 x4 x5 x12 x13 x14 x16 x17 : Int32} {mc ms kc ks j c : Nat} {post : Int32 → St0 → Prop} {J : Int32 → Int32 → Int32 → Int32 → Int32 → Int32 → (Nat → Int32) → (Nat → Int32) → (Nat → Int32) → (Nat → Int32) → (Nat → Int32) → (Nat → Int32) → (Nat → Int32) → (Nat → Int32) → (Nat → Int32) → (Nat → Int32) → (Nat → Int32) → (Nat → Int32) → (Nat → Int32) → (Nat → Int32) → (Nat → Int32) → (Nat → Int32) → (Nat → Int32) → (Nat → Int32) → (Nat → Int32) → (Nat → Int32) → Prop}
theorem pr_sent {post : Int32 → Prop} (hp : post sd) : wpX_sent post (sz, md, hg, sd, a1, a2, a3, a4, a5, a6, a7, a8, a9, a10, a11, a12, a13, a14, a15, a16, a17, a18, a19, a20) := hp
theorem pr_528 (hR : (P = 0 ∧ Q = 1 ∧ R = 2) ∨ (P = 1 ∧ Q = 0 ∧ R = 2) ∨ (P = 2 ∧ Q = 0 ∧ R = 1)) (hS : pr_St P Q R (nI l) sz a1 a2 a3 a4 a5 a6 a7) (hl : l < 4) (hj : j < 2) (hc : c < 900) (hsd : sd = x13 + 2) (p11 : a11 P = (if j = 0 then nI 3 else -1)) (q11 : a11 Q = (if j = 0 then nI 1 else -1)) (r11 : a11 R = (if j = 0 then nI 1 else -1)) (p12 : a12 P = 0) (p14 : a14 P = nI c) (q14 : a14 Q = nI c) (r14 : a14 R = nI c)
    (hpq : pr_q0 (3 * P + Q) a16 a17) (hpr : pr_q0 (3 * P + R) a16 a17) (hqr : pr_q0 (3 * Q + R) a16 a17) (hp : post 1 ())
    (HJ : ∀ b11 b15 b16 b17 b18 b19 : Nat → Int32, pr_A P Q R c b11 a12 a14 b16 b17 → J (x13 + 2 + 1) (x14 + 1) sz md hg (sd + 1) a1 a2 a3 a4 a5 a6 a7 a8 a9 a10 b11 a12 a13 a14 b15 b16 b17 b18 b19 a20) :
    wL_lawOf_528 post mc ms J x2 x4 x5 (nI P) (nI Q) (nI R) (nI l) x12 x13 x14 (nI j) x17 kc ks sz md hg sd a1 a2 a3 a4 a5 a6 a7 a8 a9 a10 a11 a12 a13 a14 a15 a16 a17 a18 a19 a20 := by
  have hS' := hS
  obtain ⟨_, k0, k1, k2, k3, k4, o1, o3, q1, b1, g1, g3, g4, h3, t0⟩ := hS
  have hP : P < 3 := by omega
  have hQ : Q < 3 := by omega
  have hr : R < 3 := by omega
  unfold wL_lawOf_528
  refine nm_e (pk_eq j 1 (fun z => ?_) (fun z => ?_))
  · rw [if_neg (by omega)] at p11 q11 r11
    have h11 : ∀ i, i < 3 → a11 i = -1 := by
      intro i hi
      have h : i = P ∨ i = Q ∨ i = R := by omega
      rcases h with h | h | h
      · rw [h]; exact p11
      · rw [h]; exact q11
      · rw [h]; exact r11
    have h14 : ∀ i, i < 3 → a14 i = nI c := by
      intro i hi
      have h : i = P ∨ i = Q ∨ i = R := by omega
      rcases h with h | h | h
      · rw [h]; exact p14
      · rw [h]; exact q14
      · rw [h]; exact r14
    refine pr_state_o hP p11 (br_t rfl ?_)
    refine pr_state_o hQ q11 (br_t rfl ?_)
    refine pr_state_o hr r11 (br_t rfl ?_)
    refine pr_partner_o hP p11 (br_t rfl ?_)
    refine pr_sent (br_t hsd ?_)
    refine pr_cfe h11 h14 hc (br_t rfl ?_)
    exact pr_send_n hP (fun ψ h => pr_sends_o hP p11 h) (br_t rfl hp)
  · rw [if_pos (by omega)] at p11 q11 r11
    refine pr_state_s (σ := R) (k := 1) (c := 0) hQ hr q11 (by omega) o1 (by omega) (pr_q0l hqr) (fun ψ h => pr_po_m hQ q11 (by omega) o1 k1 q1 h) (br_t rfl ?_)
    refine pr_partner (σ := R) (k := 1) hQ q11 (by omega) (fun ψ h => pr_po_m hQ q11 (by omega) o1 k1 q1 h) (br_t rfl ?_)
    refine pr_state_w (σ := Q) (k := 1) hr hQ (by omega) r11 (by omega) o1 (pr_q0l hqr) (br_t rfl ?_)
    refine pr_partner (σ := Q) (k := 1) hr r11 (by omega) (fun ψ h => pr_po_r hr hQ (by omega) r11 (by omega) o1 h) (br_t rfl ?_)
    refine pr_state_s (σ := Q) (k := 3) (c := 0) hP hQ p11 (by omega) o3 (by omega) (pr_q0l hpq) (fun ψ h => pr_po_0 hR hS' p11 p12 h) (br_t rfl ?_)
    refine pr_send_m hR hS' hl q11 hqr (fun b11 b17 b18 b19 e1 e2 f1 f2 => br_t rfl ?_)
    have p11' : b11 P = nI 3 := (e2 P (by omega)).trans p11
    have r11' : b11 R = nI 1 := (e2 R (by omega)).trans r11
    have hpq' := f2 (3 * P + Q) (by omega) hpq
    have hpr' := f2 (3 * P + R) (by omega) hpr
    refine pr_state_w (σ := P) (k := 3) hQ hP (by omega) e1 (by omega) o3 (pr_q0l hpq') (br_t rfl ?_)
    refine pr_partner (σ := P) (k := 3) hQ e1 (by omega) (fun ψ h => pr_po_r hQ hP (by omega) e1 (by omega) o3 h) (br_t rfl ?_)
    refine pr_state_r (σ := Q) (k := 1) hr hQ (by omega) r11' (by omega) o1 (pr_q1l f1) (br_t rfl ?_)
    refine pr_recv_m hR hS' r11' f1 (fun c11 c15 c16 c17 d1 d2 d3 d4 d5 => br_t rfl ?_)
    refine pr_got hr d3 (br_t rfl (nm_e (pr_sent (br_t (by rw [hsd]) (pr_way hQ hr (pr_q0l d4) (br_t rfl (nm_e ?_)))))))
    exact HJ c11 c15 c16 c17 b18 b19 ⟨(d2 P (by omega)).trans p11', (d2 Q (by omega)).trans e1, d1, p12, p14, q14, r14, d5 (3 * P + Q) (by omega) hpq', d5 (3 * P + R) (by omega) hpr', d4⟩
theorem pr_427 (hR : (P = 0 ∧ Q = 1 ∧ R = 2) ∨ (P = 1 ∧ Q = 0 ∧ R = 2) ∨ (P = 2 ∧ Q = 0 ∧ R = 1)) (hS : pr_St P Q R (nI l) sz a1 a2 a3 a4 a5 a6 a7) (hl : l < 4) (hj : j < 2) (hc : c < 800) (hsd : sd = x13 + 1) (p11 : a11 P = nI 3) (r11 : a11 R = nI 3) (p12 : a12 P = 1) (p13 : a13 P = nI j) (p14 : a14 P = nI (c + 1)) (r14 : a14 R = nI c) (hpr : pr_q0 (3 * P + R) a16 a17) (hqr : pr_q0 (3 * Q + R) a16 a17)
    (hE : (x5 >>> (x14 &&& 31)) &&& 4 = 0 → a11 Q = (if j = 0 then nI 1 else -1) ∧ a14 Q = nI (c + 1) ∧ pr_q0 (3 * P + Q) a16 a17)
    (hL : ¬ (x5 >>> (x14 &&& 31)) &&& 4 = 0 → a11 Q = nI 3 ∧ a14 Q = nI c ∧ pr_q1 (3 * P + Q) (nI j) x16 a16 a17 a18 a19) (hp : post 1 ())
    (HJ : ∀ (s' : Int32) (b11 b12 b14 b15 b16 b17 b18 b19 : Nat → Int32), s' = x13 + 2 + 1 → pr_A P Q R (c + 1) b11 b12 b14 b16 b17 → J (x13 + 2 + 1) (x14 + 1) sz md hg s' a1 a2 a3 a4 a5 a6 a7 a8 a9 a10 b11 b12 a13 b14 b15 b16 b17 b18 b19 a20) :
    wL_lawOf_427 post mc ms J x2 x4 x5 (nI P) (nI Q) (nI R) (nI l) x12 x13 x14 (nI j) x16 x17 kc ks sz md hg sd a1 a2 a3 a4 a5 a6 a7 a8 a9 a10 a11 a12 a13 a14 a15 a16 a17 a18 a19 a20 := by
  have hS' := hS
  obtain ⟨_, k0, k1, k2, k3, k4, o1, o3, q1, b1, g1, g3, g4, h3, t0⟩ := hS
  have hP : P < 3 := by omega
  have hQ : Q < 3 := by omega
  have hr : R < 3 := by omega
  have hsd' : sd + 1 = x13 + 2 := by
    rw [hsd, Int32.add_assoc]
    rfl
  unfold wL_lawOf_427
  refine pr_send_2 hR hS' p11 p12 p13 hpr hj (fun b11 b12 b17 b18 b19 e1 e2 e3 f1 f2 f3 => br_t rfl ?_)
  have r11' : b11 R = nI 3 := (e2 R (by omega)).trans r11
  refine pr_state_r (σ := P) (k := 3) hr hP (by omega) r11' (by omega) o3 (pr_q1l f1) (br_t rfl ?_)
  refine pr_recv_c (c := c) hR hS' hr (by omega) r11' r14 hj f1 (fun c11 c14 c15 c16 c17 d1 d2 d3 d4 d5 d6 d7 d8 => br_t rfl ?_)
  refine pr_got hr d5 (br_t rfl (pr_way hP hr (pr_q0l d6) (br_t rfl ?_)))
  have hqr' := d7 (3 * Q + R) (by omega) (f2 (3 * Q + R) (by omega) hqr)
  have p11' := (d2 P (by omega)).trans e1
  have p14' := (d4 P (by omega)).trans p14
  refine br_c (fun hC => ?_) (fun hC => ?_)
  · obtain ⟨q11, q14, hpq⟩ := hE hC
    exact pr_528 (c := c + 1) hR hS' hl hj (by omega) hsd' p11' ((d2 Q (by omega)).trans ((e2 Q (by omega)).trans q11)) d1 e3 p14' ((d4 Q (by omega)).trans q14) d3 (d7 (3 * P + Q) (by omega) (f2 (3 * P + Q) (by omega) hpq)) d6 hqr' hp (fun v11 v15 v16 v17 v18 v19 hA => HJ _ v11 _ _ v15 v16 v17 v18 v19 (by rw [hsd']) hA)
  · obtain ⟨q11, q14, hpq⟩ := hL hC
    refine pr_recv_c (ρ := Q) (c := c) hR hS' hQ (by omega) ((d2 Q (by omega)).trans ((e2 Q (by omega)).trans q11)) ((d4 Q (by omega)).trans q14) hj (d8 (3 * P + Q) _ _ (by omega) (f3 (3 * P + Q) _ _ (by omega) hpq)) (fun w11 w14 w15 w16 w17 i1 i2 i3 i4 i5 i6 i7 i8 => br_t rfl (pr_got hQ i5 (br_t rfl ?_)))
    exact pr_528 (c := c + 1) hR hS' hl hj (by omega) hsd' ((i2 P (by omega)).trans p11') i1 ((i2 R (by omega)).trans d1) e3 ((i4 P (by omega)).trans p14') i3 ((i4 R (by omega)).trans d3) i6 (i7 (3 * P + R) (by omega) d6) (i7 (3 * Q + R) (by omega) hqr') hp (fun v11 v15 v16 v17 v18 v19 hA => HJ _ v11 _ _ v15 v16 v17 v18 v19 (by rw [hsd']) hA)
end
end
section
/-! ===== the law's loop ===== -/
section
variable {P Q R l : Nat} {x2 x4 x5 : Int32} {mc ms kc ks M : Nat} {post : Int32 → St0 → Prop}
/-- behind the loop -/
theorem pr_tail {sz md hg sd : Int32} {a1 a2 a3 a4 a5 a6 a7 a8 a9 a10 a11 a12 a13 a14 a15 a16 a17 a18 a19 a20 : Nat → Int32} {n : Nat} {s : Int32} (hR : (P = 0 ∧ Q = 1 ∧ R = 2) ∨ (P = 1 ∧ Q = 0 ∧ R = 2) ∨ (P = 2 ∧ Q = 0 ∧ R = 1)) (hl : l < 4) (hM : M ≤ 8) (hp : post 1 ()) (hS : pr_St P Q R (nI l) sz a1 a2 a3 a4 a5 a6 a7) : wL_lawOf_133 post mc ms x2 x4 x5 (nI P) (nI Q) (nI R) (nI l) (nI M) kc ks (n + 1) s (nI M) sz md hg sd a1 a2 a3 a4 a5 a6 a7 a8 a9 a10 a11 a12 a13 a14 a15 a16 a17 a18 a19 a20 := by
  have hS' := hS
  obtain ⟨hsz, k0, k1, k2, k3, k4, o1, o3, q1, b1, g1, g3, g4, h3, t0⟩ := hS
  have hP : P < 3 := by omega
  have hQ : Q < 3 := by omega
  have hr : R < 3 := by omega
  refine pk_le M M (fun _ => ?_) (fun z => absurd z (by omega))
  refine pr_rs (y := nI 3) (pr_b8 3 (by omega)) (fun ρ ψ b11 b12 b14 b15 hψ => ?_) (fun b11 b12 b14 b15 b16 b17 e11 e12 e14 e15 e16 e17 => ?_)
  · rw [show sz - 1 = nI 4 by rw [hsz]; exact nI_pred 4]
    exact pr_lf4 hS' hψ
  have hpq : pr_q0 (3 * P + Q) b16 b17 := pr_q00 e16 e17 (by omega)
  have hpr : pr_q0 (3 * P + R) b16 b17 := pr_q00 e16 e17 (by omega)
  refine pr_sent (br_t rfl (pr_got hr (e15 R hr) (br_t rfl ?_)))
  refine pr_state_s (σ := Q) (k := 3) (c := 0) hP hQ (e11 P hP) (by omega) o3 (by omega) (pr_q0l hpq) (fun ψ h => pr_po_0 hR hS' (e11 P hP) (e12 P hP) h) (br_t rfl ?_)
  refine pr_send_1 (j := 1) (c := 0) hR hS' (e11 P hP) (e12 P hP) (e14 P hP) hpq (by omega) (fun c12 c13 c14 c17 c18 c19 i1 i2 i3 i4 f1 f2 => br_t rfl ?_)
  refine pr_recv_c (ρ := Q) (j := 1) (c := 0) hR hS' hQ (by omega) (e11 Q hQ) ((i4 Q (by omega)).trans (e14 Q hQ)) (by omega) f1 (fun d11 d14 d15 d16 d17 u1 u2 u3 u4 u5 u6 u7 u8 => br_t rfl ?_)
  have r11 : d11 R = nI 3 := (u2 R (by omega)).trans (e11 R hr)
  refine pr_state_o hQ (u1.trans (if_neg (by omega))) (br_t rfl ?_)
  refine pr_state_w (σ := P) (k := 3) hr hP (by omega) r11 (by omega) o3 (pr_q0l (u7 (3 * P + R) (by omega) (f2 (3 * P + R) (by omega) hpr))) (br_t rfl ?_)
  exact pr_partner (σ := P) (k := 3) hr r11 (by omega) (fun ψ h => pr_po_r hr hP (by omega) r11 (by omega) o3 h) (br_t rfl hp)
/-- one turn -/
theorem pr_step {sz md hg sd : Int32} {a1 a2 a3 a4 a5 a6 a7 a8 a9 a10 a11 a12 a13 a14 a15 a16 a17 a18 a19 a20 : Nat → Int32} {n k : Nat} (hR : (P = 0 ∧ Q = 1 ∧ R = 2) ∨ (P = 1 ∧ Q = 0 ∧ R = 2) ∨ (P = 2 ∧ Q = 0 ∧ R = 1)) (hl : l < 4) (hM : M ≤ 8) (hk : k < M) (hp : post 1 ()) (hS : pr_St P Q R (nI l) sz a1 a2 a3 a4 a5 a6 a7) (hA : pr_A P Q R k a11 a12 a14 a16 a17)
    (HJ : ∀ (s' : Int32) (b11 b12 b13 b14 b15 b16 b17 b18 b19 b20 : Nat → Int32), pr_A P Q R (k + 1) b11 b12 b14 b16 b17 → wL_lawOf_133 post mc ms x2 x4 x5 (nI P) (nI Q) (nI R) (nI l) (nI M) kc ks n s' (nI (k + 1)) sz md hg s' a1 a2 a3 a4 a5 a6 a7 a8 a9 a10 b11 b12 b13 b14 b15 b16 b17 b18 b19 b20) :
    wL_lawOf_133 post mc ms x2 x4 x5 (nI P) (nI Q) (nI R) (nI l) (nI M) kc ks (n + 1) sd (nI k) sz md hg sd a1 a2 a3 a4 a5 a6 a7 a8 a9 a10 a11 a12 a13 a14 a15 a16 a17 a18 a19 a20 := by
  have hS' := hS
  obtain ⟨hsz, k0, k1, k2, k3, k4, o1, o3, q1, b1, g1, g3, g4, h3, t0⟩ := hS
  obtain ⟨p11, q11, r11, p12, p14, q14, r14, hpq, hpr, hqr⟩ := hA
  have hP : P < 3 := by omega
  have hQ : Q < 3 := by omega
  have hr : R < 3 := by omega
  obtain ⟨j, hj', ej⟩ := pk_andE (x2 >>> (nI k &&& 31)) (m := 1) 1 (by decide)
  have hj : j < 2 := hj'
  obtain ⟨i, hi', ei⟩ := pk_andE x5 (m := 3) 2 (by decide)
  have hi : i < 4 := hi'
  have e2i : 2 + (x5 &&& 3) = nI (2 + i) := by
    rw [ei]
    exact nI_add 2 i
  refine pk_le M k (fun z => absurd z (by omega)) (fun _ => nm_r ej (nm_e (nm_e ?_)))
  refine pr_state_s (σ := Q) (k := 3) (c := 0) hP hQ p11 (by omega) o3 (by omega) (pr_q0l hpq) (fun ψ h => pr_po_0 hR hS' p11 p12 h) (br_t rfl ?_)
  refine pr_partner (σ := Q) (k := 3) hP p11 (by omega) (fun ψ h => pr_po_0 hR hS' p11 p12 h) (br_t rfl ?_)
  refine pr_state_w (σ := P) (k := 3) hQ hP (by omega) q11 (by omega) o3 (pr_q0l hpq) (br_t rfl ?_)
  refine pr_partner (σ := P) (k := 3) hQ q11 (by omega) (fun ψ h => pr_po_r hQ hP (by omega) q11 (by omega) o3 h) (br_t rfl ?_)
  refine pr_state_w (σ := P) (k := 3) hr hP (by omega) r11 (by omega) o3 (pr_q0l hpr) (br_t rfl ?_)
  refine pr_partner (σ := P) (k := 3) hr r11 (by omega) (fun ψ h => pr_po_r hr hP (by omega) r11 (by omega) o3 h) (br_t rfl ?_)
  refine pr_send_b (j := 2 + i) hR hS' p11 p12 hpq (by omega) (by omega) e2i (br_t rfl ?_)
  refine pr_send_n hQ (fun ψ h => pr_sends_n (σ := P) (k := 3) hQ hP (by omega) q11 (by omega) o3 h) (br_t rfl ?_)
  refine pr_recv_n hR hS' hr (by omega) r11 hpr (br_t rfl ?_)
  refine pr_send_1 (j := j) (c := k) hR hS' p11 p12 p14 hpq hj (fun b12 b13 b14 b17 b18 b19 i1 i2 i3 i4 f1 f2 => br_t rfl ?_)
  have q14' : b14 Q = nI k := (i4 Q (by omega)).trans q14
  have r14' : b14 R = nI k := (i4 R (by omega)).trans r14
  have hpr' := f2 (3 * P + R) (by omega) hpr
  have hqr' := f2 (3 * Q + R) (by omega) hqr
  refine pr_way hP hQ (pr_q1l f1) (br_t rfl ?_)
  refine pr_state_s (σ := R) (k := 3) (c := 0) hP hr p11 (by omega) o3 (by omega) (pr_q0l hpr') (fun ψ h => pr_po_1 hR hS' p11 i1 h) (br_t rfl ?_)
  refine pr_partner (σ := R) (k := 3) hP p11 (by omega) (fun ψ h => pr_po_1 hR hS' p11 i1 h) (br_t rfl ?_)
  refine pr_state_r (σ := P) (k := 3) hQ hP (by omega) q11 (by omega) o3 (pr_q1l f1) (br_t rfl ?_)
  refine pr_state_w (σ := P) (k := 3) hr hP (by omega) r11 (by omega) o3 (pr_q0l hpr') (br_t rfl ?_)
  refine pr_partner (σ := P) (k := 3) hr r11 (by omega) (fun ψ h => pr_po_r hr hP (by omega) r11 (by omega) o3 h) (br_t rfl ?_)
  refine pr_way hP hr (pr_q0l hpr') (br_t rfl ?_)
  refine pr_cf1 (c := k) hR hS' p11 i1 i2 hj i3 q14' r14' (by omega) (fun b20 => br_t rfl ?_)
  refine br_c (fun hC => ?_) (fun hC => ?_)
  · refine pr_recv_c (ρ := Q) (c := k) hR hS' hQ (by omega) q11 q14' hj f1 (fun d11 d14 d15 d16 d17 u1 u2 u3 u4 u5 u6 u7 u8 => br_t rfl (pr_got hQ u5 (br_t rfl ?_)))
    refine pr_427 (c := k) hR hS' hl hj (by omega) rfl ((u2 P (by omega)).trans p11) ((u2 R (by omega)).trans r11) i1 i2 ((u4 P (by omega)).trans i3) ((u4 R (by omega)).trans r14') (u7 (3 * P + R) (by omega) hpr') (u7 (3 * Q + R) (by omega) hqr') (fun _ => ⟨u1, u3, u6⟩) (fun z => absurd hC z) hp (fun s' v11 v12 v14 v15 v16 v17 v18 v19 es hA => ?_)
    rw [← es, nI_1]
    exact HJ s' v11 v12 b13 v14 v15 v16 v17 v18 v19 b20 hA
  · refine pr_427 (c := k) hR hS' hl hj (by omega) rfl p11 r11 i1 i2 i3 r14' hpr' hqr' (fun z => absurd z hC) (fun _ => ⟨q11, q14', f1⟩) hp (fun s' v11 v12 v14 v15 v16 v17 v18 v19 es hA => ?_)
    rw [← es, nI_1]
    exact HJ s' v11 v12 b13 v14 v15 v16 v17 v18 v19 b20 hA
theorem pr_133 (hR : (P = 0 ∧ Q = 1 ∧ R = 2) ∨ (P = 1 ∧ Q = 0 ∧ R = 2) ∨ (P = 2 ∧ Q = 0 ∧ R = 1)) (hl : l < 4) (hM : M ≤ 8) (hp : post 1 ()) : ∀ n k : Nat, k + n = M → ∀ (sz md hg sd : Int32) (a1 a2 a3 a4 a5 a6 a7 a8 a9 a10 a11 a12 a13 a14 a15 a16 a17 a18 a19 a20 : Nat → Int32), pr_St P Q R (nI l) sz a1 a2 a3 a4 a5 a6 a7 → pr_A P Q R k a11 a12 a14 a16 a17 → wL_lawOf_133 post mc ms x2 x4 x5 (nI P) (nI Q) (nI R) (nI l) (nI M) kc ks (n + 1) sd (nI k) sz md hg sd a1 a2 a3 a4 a5 a6 a7 a8 a9 a10 a11 a12 a13 a14 a15 a16 a17 a18 a19 a20 := by
  intro n
  induction n with
  | zero =>
    intro k hk sz md hg sd a1 a2 a3 a4 a5 a6 a7 a8 a9 a10 a11 a12 a13 a14 a15 a16 a17 a18 a19 a20 hS hA
    rw [show k = M by omega]
    exact pr_tail hR hl hM hp hS
  | succ n ih =>
    intro k hk sz md hg sd a1 a2 a3 a4 a5 a6 a7 a8 a9 a10 a11 a12 a13 a14 a15 a16 a17 a18 a19 a20 hS hA
    exact pr_step hR hl hM (by omega) hp hS hA (fun s' b11 b12 b13 b14 b15 b16 b17 b18 b19 b20 hA' => ih (k + 1) (by omega) _ _ _ _ _ _ _ _ _ _ _ _ _ _ _ _ _ _ _ _ _ _ _ _ hS hA')
end
end
section
/-! ===== the law ===== -/
section
variable {sz md hg sd : Int32} {a1 a2 a3 a4 a5 a6 a7 a8 a9 a10 a11 a12 a13 a14 a15 a16 a17 a18 a19 a20 : Nat → Int32} {P Q R : Nat} {x1 x2 x3 x4 x5 : Int32} {mc ms kc ks : Nat} {post : Int32 → St0 → Prop}
theorem pr_40 (hR : (P = 0 ∧ Q = 1 ∧ R = 2) ∨ (P = 1 ∧ Q = 0 ∧ R = 2) ∨ (P = 2 ∧ Q = 0 ∧ R = 1)) (hp : post 1 ()) : wL_lawOf_40 post mc ms x1 x2 x3 x4 x5 (nI P) (nI Q) (nI R) kc ks sz (nI 0) (nI 0) sd a1 a2 a3 a4 a5 a6 a7 a8 a9 a10 a11 a12 a13 a14 a15 a16 a17 a18 a19 a20 := by
  have hP : P < 3 := by omega
  have hQ : Q < 3 := by omega
  have hr : R < 3 := by omega
  obtain ⟨l, hl', el⟩ := pk_andE x1 (m := 3) 2 (by decide)
  have hl : l < 4 := hl'
  obtain ⟨t, ht', et⟩ := pk_andE (x1 >>> ((2 : Int32) &&& 31)) (m := 1) 1 (by decide)
  have ht : t < 2 := ht'
  obtain ⟨j, hj', ej⟩ := pk_andE x3 (m := 7) 3 (by decide)
  have hj : j < 8 := hj'
  have ej1 : 1 + (x3 &&& 7) = nI (1 + j) := by
    rw [ej]
    exact nI_add 1 j
  unfold wL_lawOf_40
  refine nm_r el (nm_r et (nm_r ej1 ?_))
  refine pr_again (m := 0) (h := 0) (by omega) (by omega) ht ?_
  refine pr_message (m := 1) (h := 0) (g := 0) (by omega) (by omega) hQ hr (by omega) hl (by omega) pk_us ?_
  refine pr_end (m := 2) (h := 1) (by omega) (by omega) ?_
  refine pr_choose (m := 3) (h := 0) (g := 1) (g' := 2) (by omega) (by omega) hP (by omega) (by omega) (by rw [pk_un (by decide), pk_us]) pk_us ?_
  refine pr_loop (m := 4) (h := 0) (g := 3) (by omega) (by omega) ht (by omega) pk_us (br_t rfl ?_)
  refine pr_protocol (l := l) (t := t) hR ht hl ?_ (fun b1 b2 b3 b4 b5 b6 b7 b9 b10 b11 b12 b14 b15 b16 b17 hS e11 e12 e14 e15 e16 e17 => br_t rfl ?_)
  · exact ⟨rfl, rfl, rfl, rfl, rfl, rfl, rfl, rfl, rfl, rfl, rfl, rfl, rfl, rfl, rfl⟩
  · refine pr_cf0 hS e11 e12 e14 (fun b20 => br_t rfl ⟨1 + j + 1, ?_⟩)
    exact pr_133 (M := 1 + j) hR hl (by omega) hp (1 + j) 0 (by omega) _ _ _ _ _ _ _ _ _ _ _ _ _ _ _ _ _ _ _ _ _ _ _ _ hS ⟨e11 P hP, e11 Q hQ, e11 R hr, e12 P hP, e14 P hP, e14 Q hQ, e14 R hr, pr_q00 e16 e17 (by omega), pr_q00 e16 e17 (by omega), pr_q00 e16 e17 (by omega)⟩
end
theorem pr_lawOf {post : Int32 → St0 → Prop} {p0 p1 p2 p3 p4 p5 : Int32} (hp : post 1 ()) : wpL_lawOf post 138 2192 () p0 p1 p2 p3 p4 p5 := by
  refine ⟨by decide, by decide, 137, 2168, by decide, by decide, pr_init (fun b11 b12 b14 b15 b16 b17 => ⟨by decide, ?_⟩)⟩
  obtain ⟨i, hi', ei⟩ := pk_andE p0 (m := 127) 7 (by decide)
  have hi : i < 128 := hi'
  have e3 : (p0 &&& 127) - (p0 &&& 127) / 3 * 3 = nI (i % 3) := by
    rw [ei]
    exact pk_rem (a := i) (d := 3) (by omega) (by omega) (by omega)
  have h3 : i % 3 = 0 ∨ i % 3 = 1 ∨ i % 3 = 2 := by omega
  rcases h3 with e | e | e
  · rw [e] at e3
    exact nm_r e3 (br_t rfl (br_f (by decide) (pr_40 (P := 0) (Q := 1) (R := 2) (Or.inl ⟨rfl, rfl, rfl⟩) hp)))
  · rw [e] at e3
    exact nm_r e3 (br_f (by decide) (br_f (by decide) (pr_40 (P := 1) (Q := 0) (R := 2) (Or.inr (Or.inl ⟨rfl, rfl, rfl⟩)) hp)))
  · rw [e] at e3
    exact nm_r e3 (br_f (by decide) (br_t rfl (pr_40 (P := 2) (Q := 0) (R := 1) (Or.inr (Or.inr ⟨rfl, rfl, rfl⟩)) hp)))
theorem pr_cell {post : Int32 → Prop} {L i : Nat} {xs : Nat → Int32} (hL : L ≤ 6) (hi : i < 6) (h : ∀ r, post r) : wpL_cellAt post L xs () (nI i) :=
  pk_le L i (fun _ => h 0) (fun z => ⟨pk_in i L z, h _⟩)
theorem i_vc (xs : Nat → Int32) (L : Nat) (hL : L ≤ 6) : wpL_law (fun r => r = 1) L xs := by
  unfold wpL_law
  exact pr_cell (i := 0) hL (by omega) (fun r1 => pr_cell (i := 1) hL (by omega) (fun r2 => pr_cell (i := 2) hL (by omega) (fun r3 => pr_cell (i := 3) hL (by omega) (fun r4 => pr_cell (i := 4) hL (by omega) (fun r5 => pr_cell (i := 5) hL (by omega) (fun r6 => ⟨138, 2192, by decide, by decide, pr_lawOf rfl⟩))))))
end
