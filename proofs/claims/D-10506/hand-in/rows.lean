section
/-- a transaction's number -/
def ml_G (x : Int32) : Prop := ∃ i : Nat, i < 4 ∧ x = nI i
/-- a key -/
def ml_K (x : Int32) : Prop := ∃ k : Nat, k < 32 ∧ x = nI k
theorem ml_G_of {x : Int32} (h : ¬ x < 0) (h3 : ¬ 3 < x) : ml_G x := by
  obtain ⟨j, hj, e⟩ := nI_of2 (M := 3) (n := 3) (by decide) h (Int32.not_lt.mp h3)
  exact ⟨j, by omega, e⟩
theorem ml_K_of' {x : Int32} (h : ¬ x < 0) (h3 : x ≤ 31) : ml_K x := by
  obtain ⟨j, hj, e⟩ := nI_of2 (M := 31) (n := 31) (by decide) h h3
  exact ⟨j, by omega, e⟩
theorem ml_K_of {x : Int32} (h : ¬ x < 0) (h3 : ¬ 31 < x) : ml_K x := ml_K_of' h (Int32.not_lt.mp h3)
theorem ml_G_lo {x : Int32} (h : ml_G x) : ¬ x < 0 := by
  obtain ⟨i, hi, e⟩ := h
  rw [e]
  exact nI_pos (by omega)
theorem ml_G_hi {x : Int32} (h : ml_G x) : ¬ 3 < x := by
  obtain ⟨i, hi, e⟩ := h
  rw [e]
  exact nI_nlt (a := 3) (by omega) (by decide)
theorem ml_G_le {x : Int32} (h : ml_G x) : x ≤ 3 := Int32.not_lt.mp (ml_G_hi h)
theorem ml_K_lo {x : Int32} (h : ml_K x) : ¬ x < 0 := by
  obtain ⟨i, hi, e⟩ := h
  rw [e]
  exact nI_pos (by omega)
theorem ml_K_hi {x : Int32} (h : ml_K x) : ¬ 31 < x := by
  obtain ⟨i, hi, e⟩ := h
  rw [e]
  exact nI_nlt (a := 31) (by omega) (by decide)
theorem ml_K_le {x : Int32} (h : ml_K x) : x ≤ 31 := Int32.not_lt.mp (ml_K_hi h)
theorem ml_K_0 : ml_K 0 := ⟨0, by decide, rfl⟩
theorem ml_s16 : ∀ n, n < 512 → (nI n).toInt16.toInt32 = nI n := by decide +kernel
theorem ml_s8 : ∀ n, n < 32 → (nI n).toInt8.toInt32 = nI n := by decide +kernel
theorem ml_K8 {x : Int32} (h : ml_K x) : x.toInt8.toInt32 = x := by
  obtain ⟨k, hk, e⟩ := h
  rw [e]
  exact ml_s8 k hk
theorem ml_6 (i : Nat) : 6 * nI i = nI (6 * i) := pk_mul 6 i
theorem ml_2 (i : Nat) : 2 * nI i = nI (2 * i) := pk_mul 2 i
/-- bit j of a key -/
def ml_b (x : Int32) (j : Nat) : Nat := (x >>> (nI j &&& 31)).toBitVec.toNat % 2
theorem ml_bE (x : Int32) (j : Nat) : (x >>> (nI j &&& 31)) &&& 1 = nI (ml_b x j) := pk_and _ 1 (by decide)
theorem ml_bL (x : Int32) (j : Nat) : ml_b x j < 2 := Nat.mod_lt _ (by decide)
theorem ml_fill {s : Nat → Int32} {i k : Nat} {x y : Int32} (hk : k = i) (h : ∀ j, j < i → s j = y) (hx : x = y) : ∀ j, j < i + 1 → upd s k x j = y := by
  intro j hj
  rw [hk]
  by_cases e : j = i
  · rw [e, pk_us, hx]
  · rw [pk_un e]
    exact h j (by omega)
theorem ml_check {post : Int32 → Prop} {f0 f1 f2 : Int32} {a1 a2 a3 a4 a5 a6 a7 a8 a9 a10 a11 a12 a13 a14 a15 a16 a17 a18 : Nat → Int32} {p q : Int32}
    (hb : ¬ (ml_G p ∧ ml_K q) → post (-1))
    (hc : ∀ i, i < 4 → p = nI i → ml_K q → a8 i = 0 → post (-3))
    (ho : ∀ i, i < 4 → p = nI i → ml_K q → ¬ a8 i = 0 → post 0) :
    wpX_check post (f0, f1, f2, a1, a2, a3, a4, a5, a6, a7, a8, a9, a10, a11, a12, a13, a14, a15, a16, a17, a18) p q q := by
  unfold wpX_check
  refine br_c (fun h => hb (fun z => ml_G_lo z.1 h)) (fun h1 => br_c (fun h => hb (fun z => ml_G_hi z.1 h)) (fun h2 => br_c (fun h => hb (fun z => ml_K_lo z.2 h)) (fun h3 => br_c (fun h => hb (fun z => ml_K_hi z.2 h)) (fun h4 => br_t (Int32.le_refl q) ?_))))
  obtain ⟨i, hi, e⟩ := ml_G_of h1 h2
  have hk := ml_K_of h3 h4
  have hc' := hc i hi e hk
  have ho' := ho i hi e hk
  rw [e, nI_clamp (show i < 2 ^ 31 by omega)]
  exact ⟨pk_in i 4 hi, br_c hc' ho'⟩
theorem ml_place {post : Int32 → Prop} {f0 f1 f2 : Int32} {a1 a2 a3 a4 a5 a6 a7 a8 a9 a10 a11 a12 a13 a14 a15 a16 a17 a18 : Nat → Int32} {i : Nat} {q x1 : Int32} (hi : i < 4) (h0 : ¬ ml_K x1 → a12 i = 0) (h1 : ml_K x1 → a12 i = 1 ∧ a13 (6 * i) = x1)
    (hy : ml_K x1 → q = x1 → post (nI (6 * i))) (hn : ¬ (ml_K x1 ∧ q = x1) → post (-1)) : wpX_placeOf post (f0, f1, f2, a1, a2, a3, a4, a5, a6, a7, a8, a9, a10, a11, a12, a13, a14, a15, a16, a17, a18) (nI i) q := by
  unfold wpX_placeOf
  refine nm_r (e' := nI (6 * i)) (ml_6 i) ⟨1 + 1, ?_⟩
  have ci : (nI i).toNatClampNeg = i := nI_clamp (by omega)
  have c6 : (nI (6 * i)).toNatClampNeg = 6 * i := nI_clamp (by omega)
  unfold wX_placeOf_5
  refine ⟨pk_in i 4 hi, ?_⟩
  rw [ci, c6, ml_6]
  by_cases hk : ml_K x1
  · obtain ⟨c1, c2⟩ := h1 hk
    rw [c1, nI_1]
    refine pk_le (6 * i + 1) (6 * i) (fun z => absurd z (by omega)) (fun _ => ⟨pk_in (6 * i) 24 (by omega), ?_⟩)
    rw [c2]
    refine br_c (fun e => hy hk e.symm) (fun ne => nm_e ?_)
    unfold wX_placeOf_5
    refine ⟨pk_in i 4 hi, ?_⟩
    rw [ci, ml_6, c1, nI_1]
    exact pk_le (6 * i + 1) (6 * i + 1) (fun _ => hn (fun z => ne z.2.symm)) (fun z => absurd z (by omega))
  · rw [h0 hk, Int32.add_zero]
    exact pk_le (6 * i) (6 * i) (fun _ => hn (fun z => hk z.1)) (fun z => absurd z (by omega))
theorem ml_leafN {post : Int32 → Prop} {f0 f1 f2 : Int32} {a1 a2 a3 a4 a5 a6 a7 a8 a9 a10 a11 a12 a13 a14 a15 a16 a17 a18 : Nat → Int32} {q : Int32} (h : post (-1)) : wpX_leafOf post (f0, f1, f2, a1, a2, a3, a4, a5, a6, a7, a8, a9, a10, a11, a12, a13, a14, a15, a16, a17, a18) (-1) q :=
  Exists.intro 1 (br_f (by decide) (br_t (by decide) h))
theorem ml_leafT {post : Int32 → Prop} {f0 f1 f2 : Int32} {a1 a2 a3 a4 a5 a6 a7 a8 a9 a10 a11 a12 a13 a14 a15 a16 a17 a18 : Nat → Int32} {x1 : Int32} (hb : ∀ j, j < 5 → a1 (2 * (j + 1) + ml_b x1 j) = nI j) (h : post 0) : wpX_leafOf post (f0, f1, f2, a1, a2, a3, a4, a5, a6, a7, a8, a9, a10, a11, a12, a13, a14, a15, a16, a17, a18) (nI 5) x1 := by
  unfold wpX_leafOf
  refine ⟨6, pk_loopD (σ := Unit) (fun n i _ => wX_leafOf_5 post x1 f0 f1 f2 a1 a2 a3 a4 a5 a6 a7 a8 a9 a10 a11 a12 a13 a14 a15 a16 a17 a18 n (nI i) (nI i - 1)) (fun i _ => i ≤ 5) ?_ ?_ 5 () (by decide)⟩
  · intro n _ _
    exact br_t (by decide) h
  · intro n i _ hi hw
    have hi' : i + 1 ≤ 5 := hi
    have B := ml_bL x1 i
    show wX_leafOf_5 post x1 f0 f1 f2 a1 a2 a3 a4 a5 a6 a7 a8 a9 a10 a11 a12 a13 a14 a15 a16 a17 a18 (n + 1) (nI (i + 1)) (nI (i + 1) - 1)
    rw [nI_pred]
    unfold wX_leafOf_5
    rw [ml_bE, ml_2, nI_add, nI_clamp (show 2 * (i + 1) + ml_b x1 i < 2 ^ 31 by omega), hb i (by omega)]
    refine br_f (nI_pos (by omega)) (br_f (nI_pos (by omega)) ⟨pk_in (2 * (i + 1) + ml_b x1 i) 1024 (by omega), nm_e (nm_r (e' := nI i - 1) ?_ (hw () (by omega)))⟩)
    exact (Int32.sub_eq_add_neg _ _).symm
theorem ml_new {post : Int32 → St2 → Prop} {f1 f2 : Int32} {a1 a2 a3 a4 a5 a6 a7 a8 a9 a10 a11 a12 a13 a14 a15 a16 a17 a18 : Nat → Int32} {m r : Nat} (hm : m < 512) (h6 : a6 m = nI r) (hr : r < 512) (H : post (nI r) (nI m, f1, f2, a1, a2, a3, upd a4 r f1, a5, a6, a7, a8, a9, a10, a11, a12, a13, a14, a15, a16, a17, a18)) : wpX_newNode post (nI (m + 1), f1, f2, a1, a2, a3, a4, a5, a6, a7, a8, a9, a10, a11, a12, a13, a14, a15, a16, a17, a18) := by
  unfold wpX_newNode
  refine nm_r (nI_pred m) ⟨pk_in m 512 hm, nm_r (e' := nI r) (by rw [nI_clamp (by omega), h6]) ⟨pk_in r 512 hr, nm_r (e' := upd a4 r f1) (by rw [nI_clamp (by omega)]) H⟩⟩
theorem ml_push {post : St2 → Prop} {f0 f1 f2 : Int32} {a1 a2 a3 a4 a5 a6 a7 a8 a9 a10 a11 a12 a13 a14 a15 a16 a17 a18 : Nat → Int32} {k z : Int32} (h : post (f0, f1, f2, a1, a2, a3, a4, a5, a6, a7, a8, a9, a10, a11, a12, a13, a14, a15, a16, a17, a18)) : wpX_push post (f0, f1, f2, a1, a2, a3, a4, a5, a6, a7, a8, a9, a10, a11, a12, a13, a14, a15, a16, a17, a18) (-1) k z := by
  unfold wpX_push
  exact br_f (by decide) h
theorem ml_chg {post : Int32 → St2 → Prop} {f0 f1 f2 : Int32} {a1 a2 a3 a4 a5 a6 a7 a8 a9 a10 a11 a12 a13 a14 a15 a16 a17 a18 : Nat → Int32} {p1 p2 : Int32} (h : post 0 (f0, f1, 0, a1, a2, a3, a4, a5, a6, a7, a8, a9, a10, a11, a12, a13, a14, a15, a16, a17, a18)) : wpX_changedSince post (f0, f1, f2, a1, a2, a3, a4, a5, a6, a7, a8, a9, a10, a11, a12, a13, a14, a15, a16, a17, a18) (-1) p1 p2 := by
  unfold wpX_changedSince
  refine ml_push ?_
  exact Exists.intro 1 (br_t (by decide) h)
end
section
theorem ml_i207 {post : St2 → Prop} {mc ms kc ks : Nat} {f0 f1 f2 : Int32} {a1 a2 a3 a4 a5 a6 a7 a8 a9 a10 a11 a12 a13 a14 a15 a16 a17 a18 : Nat → Int32} (H : ∀ b10 : Nat → Int32, (∀ j, j < 4 → b10 j = -1) → post (f0, f1, f2, a1, a2, a3, a4, a5, a6, a7, a8, a9, b10, a11, a12, a13, a14, a15, a16, a17, a18)) : ∃ n, wX_init_207 post mc ms kc ks f0 f1 f2 n 0 a1 a2 a3 a4 a5 a6 a7 a8 a9 a10 a11 a12 a13 a14 a15 a16 a17 a18 :=
  pk_loop (fun n i s => wX_init_207 post mc ms kc ks f0 f1 f2 n (nI i) a1 a2 a3 a4 a5 a6 a7 a8 a9 s a11 a12 a13 a14 a15 a16 a17 a18) (fun i s => ∀ j, j < i → s j = -1) 4 0 a10 (by omega) (fun j hj => absurd hj (by omega))
    (fun n s h => pk_le 4 4 (fun _ => H s h) (fun z => absurd z (by omega)))
    (fun n i s hi h hw => pk_le 4 i (fun z => absurd z (by omega)) (fun _ => ⟨pk_in i 4 (by omega), nm_e (nm_r (nI_1 i) (hw _ (ml_fill (nI_clamp (by omega)) h rfl)))⟩))
theorem ml_i186 {post : St2 → Prop} {mc ms kc ks : Nat} {f0 f1 f2 : Int32} {a1 a2 a3 a4 a5 a6 a7 a8 a9 a10 a11 a12 a13 a14 a15 a16 a17 a18 : Nat → Int32} (H : ∀ b7 b10 : Nat → Int32, (∀ j, j < 6 → b7 j = -1) → (∀ j, j < 4 → b10 j = -1) → post (f0, f1, f2, a1, a2, a3, a4, a5, a6, b7, a8, a9, b10, a11, a12, a13, a14, a15, a16, a17, a18)) : ∃ n, wX_init_186 post mc ms kc ks f0 f1 f2 n 0 a1 a2 a3 a4 a5 a6 a7 a8 a9 a10 a11 a12 a13 a14 a15 a16 a17 a18 :=
  pk_loop (fun n i s => wX_init_186 post mc ms kc ks f0 f1 f2 n (nI i) a1 a2 a3 a4 a5 a6 s a8 a9 a10 a11 a12 a13 a14 a15 a16 a17 a18) (fun i s => ∀ j, j < i → s j = -1) 6 0 a7 (by omega) (fun j hj => absurd hj (by omega))
    (fun n s h => pk_le 6 6 (fun _ => ml_i207 (fun b10 h10 => H s b10 h h10)) (fun z => absurd z (by omega)))
    (fun n i s hi h hw => pk_le 6 i (fun z => absurd z (by omega)) (fun _ => ⟨pk_in i 6 (by omega), nm_e (nm_r (nI_1 i) (hw _ (ml_fill (nI_clamp (by omega)) h rfl)))⟩))
theorem ml_i153 {post : St2 → Prop} {mc ms kc ks : Nat} {f1 f2 : Int32} {a1 a2 a3 a4 a5 a6 a7 a8 a9 a10 a11 a12 a13 a14 a15 a16 a17 a18 : Nat → Int32} (H : ∀ b6 b7 b10 : Nat → Int32, (∀ j, j < 512 → b6 j = nI (511 - j)) → (∀ j, j < 6 → b7 j = -1) → (∀ j, j < 4 → b10 j = -1) → post (nI 512, f1, f2, a1, a2, a3, a4, a5, b6, b7, a8, a9, b10, a11, a12, a13, a14, a15, a16, a17, a18)) :
    ∃ n, wX_init_153 post mc ms kc ks f1 f2 n (nI 512 - 1) (nI (512 - 512)) a1 a2 a3 a4 a5 a6 a7 a8 a9 a10 a11 a12 a13 a14 a15 a16 a17 a18 := by
  refine ⟨513, pk_loopD (fun n i s => wX_init_153 post mc ms kc ks f1 f2 n (nI i - 1) (nI (512 - i)) a1 a2 a3 a4 a5 s a7 a8 a9 a10 a11 a12 a13 a14 a15 a16 a17 a18) (fun i s => i ≤ 512 ∧ ∀ j, j < 512 - i → s j = nI (511 - j)) ?_ ?_ 512 a6 ⟨by omega, fun j hj => absurd hj (by omega)⟩⟩
  · intro n s h
    exact br_t (by decide) (ml_i186 (fun b7 b10 h7 h10 => H s b7 b10 (fun j hj => h.2 j (by omega)) h7 h10))
  · intro n i s h hw
    have hi : i + 1 ≤ 512 := h.1
    have hs : ∀ j, j < 512 - (i + 1) → s j = nI (511 - j) := h.2
    show wX_init_153 post mc ms kc ks f1 f2 (n + 1) (nI (i + 1) - 1) (nI (512 - (i + 1))) a1 a2 a3 a4 a5 s a7 a8 a9 a10 a11 a12 a13 a14 a15 a16 a17 a18
    rw [nI_pred]
    unfold wX_init_153
    refine br_f (nI_pos (by omega)) ⟨pk_in (512 - (i + 1)) 512 (by omega), nm_e (nm_r (e' := nI (512 - i)) ?_ (nm_r (e' := nI i - 1) (Int32.sub_eq_add_neg _ _).symm (hw _ ⟨by omega, ?_⟩)))⟩
    · rw [nI_1, show 512 - (i + 1) + 1 = 512 - i by omega]
    · intro j hj
      rw [nI_clamp (show 512 - (i + 1) < 2 ^ 31 by omega), ml_s16 i (by omega)]
      by_cases e : j = 512 - (i + 1)
      · rw [e, pk_us, show 511 - (512 - (i + 1)) = i by omega]
      · rw [pk_un e]
        exact hs j (by omega)
theorem ml_init {post : St2 → Prop} (H : ∀ b6 b7 b10 : Nat → Int32, (∀ j, j < 512 → b6 j = nI (511 - j)) → (∀ j, j < 6 → b7 j = -1) → (∀ j, j < 4 → b10 j = -1) → post (nI 512, 0, 0, (fun _ => 0), (fun _ => 0), (fun _ => 0), (fun _ => 0), (fun _ => 0), b6, b7, (fun _ => 0), (fun _ => 0), b10, (fun _ => 0), (fun _ => 0), (fun _ => 0), (fun _ => 0), (fun _ => 0), (fun _ => 0), (fun _ => 0), (fun _ => 0))) :
    wpX_init post 18 3730 (0, 0, 0) := by
  unfold wpX_init
  refine ⟨by decide, by decide, by decide, by decide, by decide, by decide, by decide, by decide, by decide, by decide, by decide, by decide, by decide, by decide, by decide, by decide, by decide, by decide, by decide, by decide, by decide, by decide, by decide, by decide, by decide, by decide, by decide, by decide, by decide, by decide, by decide, by decide, by decide, by decide, by decide, by decide, ?_⟩
  exact ml_i153 H
end
section
/-- a state ahead of the commit: the free nodes, no trees, x0 the one transaction begun (if it is one), its one write (if x1 is a key) -/
def ml_P (x0 x1 x2 : Int32) (a6 a7 a8 a10 a12 a13 a14 a15 : Nat → Int32) : Prop :=
  (∀ j, j < 512 → a6 j = nI (511 - j)) ∧ a7 0 = -1 ∧ (∀ i, i < 4 → (a8 i = 0 ↔ ¬ x0 = nI i)) ∧ (∀ i, i < 4 → a10 i = -1) ∧
  (∀ i, i < 4 → x0 = nI i → (¬ ml_K x1 → a12 i = 0) ∧ (ml_K x1 → a12 i = 1 ∧ a13 (6 * i) = x1 ∧ a14 (6 * i) = x2 ∧ a15 (6 * i) = 1))
theorem ml_ns : vp_nar .short (-1) = -1 := by
  rw [vp_nar_short]
  decide
theorem ml_nb : vp_nar .boolean 1 = 1 := by decide
theorem ml_z0 : ((0 : Int32) - 0 / 6 * 6) = nI 0 := by decide
theorem ml_begin {post : Int32 → St2 → Prop} {f0 f2 : Int32} {a1 a2 a3 a4 a5 a6 a7 a8 a9 a10 a11 a12 a13 a14 a15 a16 a17 a18 : Nat → Int32} {t : Int32} (h7 : a7 0 = -1) (h8 : ∀ i, i < 4 → a8 i = 0) (hb : ¬ ml_G t → post (-1) (f0, 0, f2, a1, a2, a3, a4, a5, a6, a7, a8, a9, a10, a11, a12, a13, a14, a15, a16, a17, a18))
    (hg : ∀ i, i < 4 → t = nI i → post 0 (f0, 0, f2, a1, a2, a3, a4, a5, a6, a7, upd a8 i 1, upd a9 i 0, upd a10 i (-1), upd a11 i 0, upd a12 i 0, a13, a14, a15, a16, a17, a18)) : wpX_begin post (f0, 0, f2, a1, a2, a3, a4, a5, a6, a7, a8, a9, a10, a11, a12, a13, a14, a15, a16, a17, a18) t := by
  unfold wpX_begin
  refine br_c (fun h => hb (fun z => ml_G_lo z h)) (fun h1 => br_c (fun h2 => ?_) (fun h => hb (fun z => h (ml_G_le z))))
  obtain ⟨i, hi, e⟩ := ml_G_of h1 (Int32.not_lt.mpr h2)
  have H := hg i hi e
  have V : vp_in (nI i) 4 := pk_in i 4 hi
  have e10 : upd a10 i (vp_nar .short (a7 ((0 : Int32) - 0 / 6 * 6).toNatClampNeg)) = upd a10 i (-1) := by
    rw [ml_z0, nI_clamp (by decide), h7, ml_ns]
  rw [e, nI_clamp (show i < 2 ^ 31 by omega)]
  exact ⟨V, br_t (h8 i hi) ⟨V, nm_e ⟨V, nm_e ⟨by decide, pk_in 0 6 (by decide) ml_z0, V, nm_r e10 ⟨V, nm_e ⟨V, nm_e H⟩⟩⟩⟩⟩⟩
theorem ml_place0 {post : Int32 → Prop} {f0 f1 f2 : Int32} {a1 a2 a3 a4 a5 a6 a7 a8 a9 a10 a11 a12 a13 a14 a15 a16 a17 a18 : Nat → Int32} {i : Nat} {q : Int32} (hi : i < 4) (h : a12 i = 0) (hp : post (-1)) : wpX_placeOf post (f0, f1, f2, a1, a2, a3, a4, a5, a6, a7, a8, a9, a10, a11, a12, a13, a14, a15, a16, a17, a18) (nI i) q :=
  ml_place (x1 := -1) hi (fun _ => h) (fun z => absurd (by decide) (ml_K_lo z)) (fun z => absurd (by decide) (ml_K_lo z)) (fun _ => hp)
theorem ml_write {post : Int32 → St2 → Prop} {f0 f1 f2 : Int32} {a1 a2 a3 a4 a5 a6 a7 a8 a9 a10 a11 a12 a13 a14 a15 a16 a17 a18 : Nat → Int32} {x0 x1 x2 : Int32} (h8 : ∀ i, i < 4 → (a8 i = 0 ↔ ¬ x0 = nI i)) (h12 : ∀ i, i < 4 → x0 = nI i → a12 i = 0)
    (hb : ¬ (ml_G x0 ∧ ml_K x1) → post (-1) (f0, f1, f2, a1, a2, a3, a4, a5, a6, a7, a8, a9, a10, a11, a12, a13, a14, a15, a16, a17, a18))
    (hg : ∀ i, i < 4 → x0 = nI i → ml_K x1 → post 1 (f0, f1, f2, a1, a2, a3, a4, a5, a6, a7, a8, a9, a10, a11, upd a12 i 1, upd a13 (6 * i) x1, upd a14 (6 * i) x2, upd a15 (6 * i) 1, a16, a17, a18)) :
    wpX_write post (f0, f1, f2, a1, a2, a3, a4, a5, a6, a7, a8, a9, a10, a11, a12, a13, a14, a15, a16, a17, a18) x0 x1 x2 := by
  unfold wpX_write
  unfold wpX_put
  refine ml_check (fun z => br_f (by decide) (hb z)) (fun i hi e hk ha => absurd e ((h8 i hi).mp ha)) (fun i hi e hk ha => br_t rfl ?_)
  have H := hg i hi e hk
  have V : vp_in (nI i) 4 := pk_in i 4 hi
  have W : vp_in (nI (6 * i)) 24 := pk_in (6 * i) 24 (by omega)
  have ci : (nI i).toNatClampNeg = i := nI_clamp (by omega)
  have c6 : (nI (6 * i)).toNatClampNeg = 6 * i := nI_clamp (by omega)
  have ea := h12 i hi e
  rw [e]
  refine ml_place0 hi ea (br_f (by decide) ⟨V, ?_⟩)
  rw [ci, ea, ml_6, ml_K8 hk, Int32.add_zero]
  refine br_t (by decide) ⟨V, nm_e ⟨V, V, nm_r (e' := upd a12 i 1) rfl ⟨W, nm_r (e' := upd a13 (6 * i) x1) (by rw [c6]) ?_⟩⟩⟩
  unfold wX_put_77
  rw [c6, ci]
  refine ⟨W, nm_e ⟨W, nm_r (e' := upd a15 (6 * i) 1) (by rw [ml_nb]) ⟨V, ?_⟩⟩⟩
  rw [pk_us]
  exact H
theorem ml_opn {x0 : Int32} {a8 : Nat → Int32} {i : Nat} (h8 : ∀ i, i < 4 → (a8 i = 0 ↔ ¬ x0 = nI i)) (hi : i < 4) (ha : ¬ a8 i = 0) : x0 = nI i :=
  Classical.byContradiction (fun n => ha ((h8 i hi).mpr n))
theorem ml_peek {post : Int32 → Prop} {f0 f1 f2 : Int32} {a1 a2 a3 a4 a5 a6 a7 a8 a9 a10 a11 a12 a13 a14 a15 a16 a17 a18 : Nat → Int32} {x0 x1 x2 u k : Int32} (P : ml_P x0 x1 x2 a6 a7 a8 a10 a12 a13 a14 a15)
    (hy : ml_G u → u = x0 → ml_K x1 → k = x1 → post x2) (hn : ¬ (ml_G u ∧ u = x0 ∧ ml_K x1 ∧ k = x1) → post 0) : wpX_peek post (f0, f1, f2, a1, a2, a3, a4, a5, a6, a7, a8, a9, a10, a11, a12, a13, a14, a15, a16, a17, a18) u k := by
  obtain ⟨P6, P7, P8, P10, PW⟩ := P
  unfold wpX_peek
  refine ml_check (fun z => br_f (by decide) (hn (fun w => z ⟨w.1, ?_⟩))) (fun i hi e hk ha => br_f (by decide) (hn (fun w => (P8 i hi).mp ha ?_))) (fun i hi e hk ha => br_t rfl ?_)
  · rw [w.2.2.2]
    exact w.2.2.1
  · rw [← w.2.1]
    exact e
  · have ex := ml_opn P8 hi ha
    have eu : u = x0 := by rw [e, ex]
    have g : ml_G u := ⟨i, hi, e⟩
    have ci : (nI i).toNatClampNeg = i := nI_clamp (by omega)
    have c6 : (nI (6 * i)).toNatClampNeg = 6 * i := nI_clamp (by omega)
    obtain ⟨W0, W1⟩ := PW i hi ex
    rw [e]
    refine ml_place hi W0 (fun z => ⟨(W1 z).1, (W1 z).2.1⟩) (fun hx ek => br_f (nI_pos (by omega)) ⟨pk_in (6 * i) 24 (by omega), ?_⟩) (fun no => br_t (by decide) ⟨pk_in i 4 hi, ?_⟩)
    · rw [c6, (W1 hx).2.2.1]
      exact hy g eu hx ek
    · rw [ci, P10 i hi]
      exact ml_leafN (br_t (by decide) (hn (fun w => no w.2.2)))
theorem ml_inView {post : Int32 → Prop} {f0 f1 f2 : Int32} {a1 a2 a3 a4 a5 a6 a7 a8 a9 a10 a11 a12 a13 a14 a15 a16 a17 a18 : Nat → Int32} {x0 x1 x2 k : Int32} {i : Nat} (P : ml_P x0 x1 x2 a6 a7 a8 a10 a12 a13 a14 a15) (hi : i < 4) (ex : x0 = nI i)
    (hy : ml_K x1 → k = x1 → post 1) (hn : ¬ (ml_K x1 ∧ k = x1) → post 0) : wpX_inView post (f0, f1, f2, a1, a2, a3, a4, a5, a6, a7, a8, a9, a10, a11, a12, a13, a14, a15, a16, a17, a18) (nI i) k := by
  obtain ⟨P6, P7, P8, P10, PW⟩ := P
  unfold wpX_inView
  have ci : (nI i).toNatClampNeg = i := nI_clamp (by omega)
  have c6 : (nI (6 * i)).toNatClampNeg = 6 * i := nI_clamp (by omega)
  obtain ⟨W0, W1⟩ := PW i hi ex
  refine ml_place hi W0 (fun z => ⟨(W1 z).1, (W1 z).2.1⟩) (fun hx ek => br_f (nI_pos (by omega)) ⟨pk_in (6 * i) 24 (by omega), ?_⟩) (fun no => br_t (by decide) ⟨pk_in i 4 hi, ?_⟩)
  · rw [c6, (W1 hx).2.2.2]
    exact ⟨rfl, hy hx ek⟩
  · rw [ci, P10 i hi]
    exact ml_leafN (br_t (by decide) (hn no))
theorem ml_read {post : Int32 → St2 → Prop} {f0 f1 f2 : Int32} {a1 a2 a3 a4 a5 a6 a7 a8 a9 a10 a11 a12 a13 a14 a15 a16 a17 a18 : Nat → Int32} {x0 x1 x2 u k : Int32} (P : ml_P x0 x1 x2 a6 a7 a8 a10 a12 a13 a14 a15)
    (hb : ¬ (ml_G u ∧ ml_K k) → post (-1) (f0, f1, f2, a1, a2, a3, a4, a5, a6, a7, a8, a9, a10, a11, a12, a13, a14, a15, a16, a17, a18)) (hc : ml_G u → ml_K k → ¬ u = x0 → post (-3) (f0, f1, f2, a1, a2, a3, a4, a5, a6, a7, a8, a9, a10, a11, a12, a13, a14, a15, a16, a17, a18))
    (h0 : ml_G u → ml_K k → u = x0 → ¬ (ml_K x1 ∧ k = x1) → ∀ b11 : Nat → Int32, post 0 (f0, f1, f2, a1, a2, a3, a4, a5, a6, a7, a8, a9, a10, b11, a12, a13, a14, a15, a16, a17, a18))
    (h1 : ml_G u → ml_K k → u = x0 → ml_K x1 → k = x1 → ∀ b11 : Nat → Int32, post 1 (f0, f1, f2, a1, a2, a3, a4, a5, a6, a7, a8, a9, a10, b11, a12, a13, a14, a15, a16, a17, a18)) : wpX_read post (f0, f1, f2, a1, a2, a3, a4, a5, a6, a7, a8, a9, a10, a11, a12, a13, a14, a15, a16, a17, a18) u k := by
  have P8 := P.2.2.1
  unfold wpX_read
  refine ml_check (fun z => br_f (by decide) (hb z)) (fun i hi e hk ha => br_f (by decide) (hc ⟨i, hi, e⟩ hk (fun w => (P8 i hi).mp ha ?_))) (fun i hi e hk ha => br_t rfl ?_)
  · rw [← w]
    exact e
  · have ex := ml_opn P8 hi ha
    have eu : u = x0 := by rw [e, ex]
    have g : ml_G u := ⟨i, hi, e⟩
    have V : vp_in (nI i) 4 := pk_in i 4 hi
    rw [e]
    refine ⟨V, V, nm_e (ml_inView P hi ex (fun hx ek => br_f (by decide) (h1 g hk eu hx ek _)) (fun no => br_t rfl (h0 g hk eu no _)))⟩
end
section
/-- the tree that one write of a key x1 makes: nodes 0 (the leaf) .. 5 (the root) -/
def ml_T (x1 x2 : Int32) (a1 a2 a3 : Nat → Int32) : Prop := (∀ j, j < 5 → a1 (2 * (j + 1) + ml_b x1 j) = nI j) ∧ a2 0 = x2 ∧ a3 0 = 1
theorem ml_w135 {post : Int32 → St2 → Prop} {f1 : Int32} {a1 a2 a3 a4 a5 a6 a7 a8 a9 a10 a11 a12 a13 a14 a15 a16 a17 a18 : Nat → Int32} {x1 : Int32} (h6 : ∀ j, j < 512 → a6 j = nI (511 - j)) (h16 : ∀ j, j < 5 → a16 j = -1)
    (H : ∀ (g0 g2 : Int32) (b1 b4 : Nat → Int32), (∀ j, j < 5 → b1 (2 * (j + 1) + ml_b x1 j) = nI j) → post (nI 5) (g0, f1, g2, b1, a2, a3, b4, a5, a6, a7, a8, a9, a10, a11, a12, a13, a14, a15, a16, a17, a18)) :
    ∃ n, wX_written_135 post x1 n 0 0 (nI 511) f1 (nI 5) a1 a2 a3 a4 a5 a6 a7 a8 a9 a10 a11 a12 a13 a14 a15 a16 a17 a18 := by
  refine pk_loop (σ := (Nat → Int32) × (Nat → Int32)) (fun n i s => wX_written_135 post x1 n (nI i) (nI i) (nI (511 - i)) f1 (nI (5 - i)) s.1 a2 a3 s.2 a5 a6 a7 a8 a9 a10 a11 a12 a13 a14 a15 a16 a17 a18) (fun i s => ∀ j, j < i → s.1 (2 * (j + 1) + ml_b x1 j) = nI j) 5 0 (a1, a4) (by omega) (fun j hj => absurd hj (by omega)) ?_ ?_
  · intro n s h
    exact pk_le 5 5 (fun _ => H _ _ s.1 s.2 h) (fun z => absurd z (by omega))
  · intro n i s hi h hw
    have B := ml_bL x1 i
    have t : ∀ s' : (Nat → Int32) × (Nat → Int32), (∀ j, j < i + 1 → s'.1 (2 * (j + 1) + ml_b x1 j) = nI j) → wX_written_135 post x1 n (nI (i + 1)) (nI (i + 1)) (nI (511 - (i + 1))) f1 (nI (5 - (i + 1))) s'.1 a2 a3 s'.2 a5 a6 a7 a8 a9 a10 a11 a12 a13 a14 a15 a16 a17 a18 := hw
    rw [show 511 - (i + 1) = 510 - i by omega, show 5 - (i + 1) = 4 - i by omega] at t
    show wX_written_135 post x1 (n + 1) (nI i) (nI i) (nI (511 - i)) f1 (nI (5 - i)) s.1 a2 a3 s.2 a5 a6 a7 a8 a9 a10 a11 a12 a13 a14 a15 a16 a17 a18
    rw [show 511 - i = 510 - i + 1 by omega, show 5 - i = 4 - i + 1 by omega]
    unfold wX_written_135
    refine pk_le 5 i (fun z => absurd z (by omega)) (fun _ => nm_r (nI_pred (4 - i)) ⟨pk_in (4 - i) 16 (by omega), nm_r (e' := -1) ?_ (nm_r (ml_bE x1 i) (ml_new (m := 510 - i) (r := i + 1) (by omega) ?_ (by omega) ?_))⟩)
    · rw [nI_clamp (by omega)]
      exact h16 _ (by omega)
    · rw [h6 _ (by omega), show 511 - (510 - i) = i + 1 by omega]
    · have E1 : 2 * nI (i + 1) + nI (ml_b x1 i) = nI (2 * (i + 1) + ml_b x1 i) := by rw [ml_2, nI_add]
      have E2 : 2 * nI (i + 1) + 1 - nI (ml_b x1 i) = nI (2 * (i + 1) + 1 - ml_b x1 i) := by rw [ml_2, nI_1, pk_sub (by omega)]
      dsimp only
      rw [E1, E2, nI_clamp (show 2 * (i + 1) + ml_b x1 i < 2 ^ 31 by omega), nI_clamp (show 2 * (i + 1) + 1 - ml_b x1 i < 2 ^ 31 by omega), ml_s16 i (by omega)]
      refine ⟨pk_in (2 * (i + 1) + ml_b x1 i) 1024 (by omega), nm_e (br_f (by decide) ⟨pk_in (2 * (i + 1) + 1 - ml_b x1 i) 1024 (by omega), nm_e (nm_r (nI_1 i) ?_)⟩)⟩
      refine t (upd (upd s.1 (2 * (i + 1) + ml_b x1 i) (nI i)) (2 * (i + 1) + 1 - ml_b x1 i) (-1), upd s.2 (i + 1) f1) (fun j hj => ?_)
      have Bj := ml_bL x1 j
      show upd (upd s.1 (2 * (i + 1) + ml_b x1 i) (nI i)) (2 * (i + 1) + 1 - ml_b x1 i) (-1) (2 * (j + 1) + ml_b x1 j) = nI j
      by_cases e : j = i
      · rw [e, pk_un (by omega), pk_us]
      · rw [pk_un (by omega), pk_un (by omega)]
        exact h j (by omega)
theorem ml_w72 {post : Int32 → St2 → Prop} {f1 : Int32} {a1 a2 a3 a4 a5 a6 a7 a8 a9 a10 a11 a12 a13 a14 a15 a16 a17 a18 : Nat → Int32} {x1 : Int32} (h6 : ∀ j, j < 512 → a6 j = nI (511 - j))
    (H : ∀ (g0 g2 : Int32) (b1 b4 b16 : Nat → Int32), (∀ j, j < 5 → b1 (2 * (j + 1) + ml_b x1 j) = nI j) → post (nI 5) (g0, f1, g2, b1, a2, a3, b4, a5, a6, a7, a8, a9, a10, a11, a12, a13, a14, a15, b16, a17, a18)) :
    ∃ n, wX_written_72 post x1 0 (nI 511) f1 n (-1) 4 0 a1 a2 a3 a4 a5 a6 a7 a8 a9 a10 a11 a12 a13 a14 a15 a16 a17 a18 := by
  have key : ∃ n, wX_written_72 post x1 0 (nI 511) f1 n (-1) (nI 4 - nI 0) (nI 0) a1 a2 a3 a4 a5 a6 a7 a8 a9 a10 a11 a12 a13 a14 a15 a16 a17 a18 := by
    refine pk_loop (fun n i s => wX_written_72 post x1 0 (nI 511) f1 n (-1) (nI 4 - nI i) (nI i) a1 a2 a3 a4 a5 a6 a7 a8 a9 a10 a11 a12 a13 a14 a15 s a17 a18) (fun i s => ∀ j, j < i → s j = -1) 5 0 a16 (by omega) (fun j hj => absurd hj (by omega)) ?_ ?_
    · intro n s h
      exact br_t (by decide) (ml_w135 h6 h (fun g0 g2 b1 b4 hb => H g0 g2 b1 b4 s hb))
    · intro n i s hi h hw
      have t : ∀ s' : Nat → Int32, (∀ j, j < i + 1 → s' j = -1) → wX_written_72 post x1 0 (nI 511) f1 n (-1) (nI 4 - nI (i + 1)) (nI (i + 1)) a1 a2 a3 a4 a5 a6 a7 a8 a9 a10 a11 a12 a13 a14 a15 s' a17 a18 := hw
      show wX_written_72 post x1 0 (nI 511) f1 (n + 1) (-1) (nI 4 - nI i) (nI i) a1 a2 a3 a4 a5 a6 a7 a8 a9 a10 a11 a12 a13 a14 a15 s a17 a18
      unfold wX_written_72
      have e1 : nI 4 - nI i + (-1) = nI 4 - nI (i + 1) := by
        rw [nI_succ i]
        grind
      have e2 : ¬ nI 4 - nI i < 0 := by
        rw [pk_sub (by omega)]
        exact nI_pos (by omega)
      refine br_f e2 ⟨pk_in i 16 (by omega), nm_e (nm_r (nI_1 i) (br_t (by decide) (nm_r e1 (t _ (ml_fill (nI_clamp (by omega)) h (by decide))))))⟩
  exact key
theorem ml_written {post : Int32 → St2 → Prop} {f1 f2 : Int32} {a1 a2 a3 a4 a5 a6 a7 a8 a9 a10 a11 a12 a13 a14 a15 a16 a17 a18 : Nat → Int32} {w : Nat} {x1 x2 : Int32} (hw : w < 24) (h6 : ∀ j, j < 512 → a6 j = nI (511 - j)) (h13 : a13 w = x1) (h14 : a14 w = x2) (h15 : a15 w = 1)
    (H : ∀ (g0 g2 : Int32) (b1 b2 b3 b4 b16 : Nat → Int32), ml_T x1 x2 b1 b2 b3 → post (nI 5) (g0, f1, g2, b1, b2, b3, b4, a5, a6, a7, a8, a9, a10, a11, a12, a13, a14, a15, b16, a17, a18)) :
    wpX_written post (nI (511 + 1), f1, f2, a1, a2, a3, a4, a5, a6, a7, a8, a9, a10, a11, a12, a13, a14, a15, a16, a17, a18) (-1) (nI w) := by
  have cw : (nI w).toNatClampNeg = w := nI_clamp (by omega)
  have W : vp_in (nI w) 24 := pk_in w 24 hw
  unfold wpX_written
  refine ⟨W, nm_r (e' := x1) (by rw [cw, h13]) (ml_new (m := 511) (r := 0) (by omega) (h6 511 (by omega)) (by omega) ?_)⟩
  refine ⟨pk_in 0 1024 (by omega), nm_e ⟨pk_in 1 1024 (by omega), nm_e ⟨W, pk_in 0 512 (by omega), nm_e ⟨W, pk_in 0 512 (by omega), nm_e ?_⟩⟩⟩⟩
  exact ml_w72 h6 (fun g0 g2 b1 b4 b16 hb => H g0 g2 b1 _ _ b4 b16 ⟨hb, by rw [cw, h14]; rfl, by rw [cw, h15]; rfl⟩)
theorem ml_c114 {post : Int32 → St2 → Prop} {f2 : Int32} {a1 a2 a3 a4 a5 a6 a7 a8 a9 a10 a11 a12 a13 a14 a15 a16 a17 a18 : Nat → Int32} {i : Nat} {x1 x2 : Int32} (hi : i < 4) (h6 : ∀ j, j < 512 → a6 j = nI (511 - j)) (h7 : a7 0 = -1) (h71 : a7 1 = -1)
    (W0 : ¬ ml_K x1 → a12 i = 0) (W1 : ml_K x1 → a12 i = 1 ∧ a13 (6 * i) = x1 ∧ a14 (6 * i) = x2 ∧ a15 (6 * i) = 1)
    (H : ∀ (g0 g2 : Int32) (b1 b2 b3 b4 b7 b16 : Nat → Int32), b7 0 = -1 → (ml_K x1 → b7 1 = nI 5 ∧ ml_T x1 x2 b1 b2 b3) → post 1 (g0, 1, g2, b1, b2, b3, b4, a5, a6, b7, a8, a9, a10, a11, a12, a13, a14, a15, b16, a17, a18)) :
    ∃ n, wX_commit_114 post (nI i) n (nI (6 * i)) (nI (511 + 1)) 1 f2 a1 a2 a3 a4 a5 a6 a7 a8 a9 a10 a11 a12 a13 a14 a15 a16 a17 a18 := by
  have ci : (nI i).toNatClampNeg = i := nI_clamp (by omega)
  have V : vp_in (nI i) 4 := pk_in i 4 hi
  have e1 : (1 : Int32) - 1 / 6 * 6 = nI 1 := by decide
  have c1 : (nI 1).toNatClampNeg = 1 := nI_clamp (by decide)
  refine ⟨1 + 1, ?_⟩
  unfold wX_commit_114
  refine ⟨V, ?_⟩
  rw [ci, ml_6]
  by_cases hk : ml_K x1
  · obtain ⟨k12, k13, k14, k15⟩ := W1 hk
    rw [k12, nI_1, e1, c1, h71]
    refine pk_le (6 * i + 1) (6 * i) (fun z => absurd z (by omega)) (fun _ => ⟨by decide, by decide, pk_in 1 6 (by omega), ml_written (by omega) h6 k13 k14 k15 (fun g0 g2 b1 b2 b3 b4 b16 T => ?_)⟩)
    refine ⟨pk_in 1 6 (by omega), nm_r (e' := upd a7 1 (nI 5)) (by rw [ml_s16 5 (by omega)]) (nm_e ?_)⟩
    unfold wX_commit_114
    refine ⟨V, ?_⟩
    rw [ci, ml_6, k12, nI_1]
    exact pk_le (6 * i + 1) (6 * i + 1) (fun _ => H g0 g2 b1 b2 b3 b4 _ b16 (by rw [pk_un (by omega)]; exact h7) (fun _ => ⟨pk_us, T⟩)) (fun z => absurd z (by omega))
  · rw [W0 hk, Int32.add_zero]
    exact pk_le (6 * i) (6 * i) (fun _ => H _ _ a1 a2 a3 a4 a7 a16 h7 (fun z => absurd z hk)) (fun z => absurd z (by omega))
theorem ml_commit {post : Int32 → St2 → Prop} {f2 : Int32} {a1 a2 a3 a4 a5 a6 a7 a8 a9 a10 a11 a12 a13 a14 a15 a16 a17 a18 : Nat → Int32} {x0 x1 x2 u : Int32} (P : ml_P x0 x1 x2 a6 a7 a8 a10 a12 a13 a14 a15)
    (hb : ¬ ml_G u → post (-1) (nI 512, 0, f2, a1, a2, a3, a4, a5, a6, a7, a8, a9, a10, a11, a12, a13, a14, a15, a16, a17, a18)) (hc : ml_G u → ¬ u = x0 → post (-3) (nI 512, 0, f2, a1, a2, a3, a4, a5, a6, a7, a8, a9, a10, a11, a12, a13, a14, a15, a16, a17, a18))
    (ho : ml_G u → u = x0 → ∀ (g0 g2 : Int32) (b1 b2 b3 b4 b7 b8 b10 b16 : Nat → Int32), b7 0 = -1 → (ml_K x1 → b7 1 = nI 5 ∧ ml_T x1 x2 b1 b2 b3) → post 1 (g0, 1, g2, b1, b2, b3, b4, a5, a6, b7, b8, a9, b10, a11, a12, a13, a14, a15, b16, a17, a18)) :
    wpX_commit post (nI 512, 0, f2, a1, a2, a3, a4, a5, a6, a7, a8, a9, a10, a11, a12, a13, a14, a15, a16, a17, a18) u := by
  obtain ⟨P6, P7, P8, P10, PW⟩ := P
  unfold wpX_commit
  refine ml_check (fun z => br_f (by decide) (hb (fun g => z ⟨g, ml_K_0⟩))) (fun i hi e hk ha => br_f (by decide) (hc ⟨i, hi, e⟩ (fun w => (P8 i hi).mp ha ?_))) (fun i hi e hk ha => br_t rfl ?_)
  · rw [← w]
    exact e
  · have ex := ml_opn P8 hi ha
    have eu : u = x0 := by rw [e, ex]
    have g : ml_G u := ⟨i, hi, e⟩
    have V : vp_in (nI i) 4 := pk_in i 4 hi
    obtain ⟨W0, W1⟩ := PW i hi ex
    have e1 : (1 : Int32) - 1 / 6 * 6 = nI 1 := by decide
    have c1 : (nI 1).toNatClampNeg = 1 := nI_clamp (by decide)
    rw [e]
    refine ⟨V, nm_e ⟨by decide, pk_in 0 6 (by omega) ml_z0, nm_r (e' := -1) ?_ ⟨V, V, ml_chg ?_⟩⟩⟩
    · rw [ml_z0, nI_clamp (by decide), P7]
    · refine br_t rfl ⟨V, nm_e (nm_r (e' := 1) (by decide) ⟨by decide, pk_in 1 6 (by omega) e1, nm_r (e' := upd a7 1 (-1)) ?_ (br_t (by decide) (nm_r (ml_6 i) ?_))⟩)⟩
      · rw [e1, c1]
        rfl
      · exact ml_c114 hi P6 (by rw [pk_un (by omega)]; exact P7) pk_us W0 W1 (fun g0 g2 b1 b2 b3 b4 b7 b16 h7 hT => ho g eu g0 g2 b1 b2 b3 b4 b7 _ _ b16 h7 hT)
theorem ml_k6 : ∀ l, l < 2 → ∀ j, j < 2 → ¬ nI j ≤ nI l - 6 := by decide
theorem ml_r6 : ∀ j, j < 2 → nI j - nI j / 6 * 6 = nI j := by decide
theorem ml_kept {post : Int32 → Prop} {f0 f2 : Int32} {a1 a2 a3 a4 a5 a6 a7 a8 a9 a10 a11 a12 a13 a14 a15 a16 a17 a18 : Nat → Int32} {l : Nat} {s : Int32} (hl : l < 2) (h0 : (∀ j, j ≤ l → ¬ s = nI j) → post 0) (h1 : ∀ j, j ≤ l → s = nI j → post 1) : wpX_isKept post (f0, nI l, f2, a1, a2, a3, a4, a5, a6, a7, a8, a9, a10, a11, a12, a13, a14, a15, a16, a17, a18) s := by
  unfold wpX_isKept
  refine br_c (fun h => h0 (fun j hj e => ?_)) (fun a => br_c (fun h => h0 (fun j hj e => ?_)) (fun b => ?_))
  · rw [e] at h
    exact nI_pos (by omega) h
  · rw [e] at h
    exact nI_nlt hj (by omega) h
  · obtain ⟨j, hj, e⟩ := nI_of2 (M := nI l) (n := l) (nI_toInt (by omega)) a (Int32.not_lt.mp b)
    refine br_f ?_ (h1 j hj e)
    rw [e]
    exact ml_k6 l hl j (by omega)
theorem ml_has0 {post : Int32 → Prop} {f0 f2 : Int32} {a1 a2 a3 a4 a5 a6 a7 a8 a9 a10 a11 a12 a13 a14 a15 a16 a17 a18 : Nat → Int32} {l : Nat} {s q : Int32} (hl : l < 2) (h : ∀ j, j ≤ l → s = nI j → ml_K q → a7 j = -1) (H : post 0) : wpX_has post (f0, nI l, f2, a1, a2, a3, a4, a5, a6, a7, a8, a9, a10, a11, a12, a13, a14, a15, a16, a17, a18) s q := by
  unfold wpX_has
  refine ml_kept hl (fun _ => br_t rfl H) (fun j hj e => br_f (by decide) (br_c (fun _ => H) (fun k1 => br_c (fun k2 => ?_) (fun _ => H))))
  have E : s - s / 6 * 6 = nI j := by
    rw [e]
    exact ml_r6 j (by omega)
  rw [E, nI_clamp (show j < 2 ^ 31 by omega), h j hj e (ml_K_of' k1 k2)]
  exact ⟨by decide, pk_in j 6 (by omega), ml_leafN (br_t (by decide) H)⟩
theorem ml_has1 {post : Int32 → Prop} {f0 f2 : Int32} {a1 a2 a3 a4 a5 a6 a7 a8 a9 a10 a11 a12 a13 a14 a15 a16 a17 a18 : Nat → Int32} {x1 x2 : Int32} (hk : ml_K x1) (h7 : a7 1 = nI 5) (T : ml_T x1 x2 a1 a2 a3) (H : post 1) : wpX_has post (f0, nI 1, f2, a1, a2, a3, a4, a5, a6, a7, a8, a9, a10, a11, a12, a13, a14, a15, a16, a17, a18) (nI 1) x1 := by
  have e1 : nI 1 - nI 1 / 6 * 6 = nI 1 := by decide
  have c1 : (nI 1).toNatClampNeg = 1 := nI_clamp (by decide)
  unfold wpX_has
  refine ml_kept (by decide) (fun no => absurd rfl (no 1 (by omega))) (fun j hj e => br_f (by decide) (br_f (ml_K_lo hk) (br_t (ml_K_le hk) ?_)))
  rw [e1, c1, h7]
  refine ⟨by decide, pk_in 1 6 (by omega), ml_leafT T.1 (br_f (by decide) ⟨pk_in 0 512 (by omega), ?_⟩)⟩
  rw [sb_cl0, T.2.2]
  exact br_f (by decide) H
theorem ml_atO {post : Int32 → Prop} {f0 f2 : Int32} {a1 a2 a3 a4 a5 a6 a7 a8 a9 a10 a11 a12 a13 a14 a15 a16 a17 a18 : Nat → Int32} {s q : Int32} (h7 : a7 0 = -1) (H : post 0) : wpX_at post (f0, 0, f2, a1, a2, a3, a4, a5, a6, a7, a8, a9, a10, a11, a12, a13, a14, a15, a16, a17, a18) s q := by
  unfold wpX_at
  exact ml_has0 (l := 0) (by decide) (fun j hj _ _ => by rw [show j = 0 by omega]; exact h7) (br_t rfl H)
theorem ml_atN {post : Int32 → Prop} {f0 f2 : Int32} {a1 a2 a3 a4 a5 a6 a7 a8 a9 a10 a11 a12 a13 a14 a15 a16 a17 a18 : Nat → Int32} {s x1 x2 : Int32} (h7 : a7 0 = -1) (hT : ml_K x1 → a7 1 = nI 5 ∧ ml_T x1 x2 a1 a2 a3)
    (H1 : ml_K x1 → s = 1 → post x2) (H0 : ¬ (ml_K x1 ∧ s = 1) → post 0) : wpX_at post (f0, 1, f2, a1, a2, a3, a4, a5, a6, a7, a8, a9, a10, a11, a12, a13, a14, a15, a16, a17, a18) s x1 := by
  unfold wpX_at
  by_cases c : ml_K x1 ∧ s = 1
  · obtain ⟨hk, e⟩ := c
    obtain ⟨t7, T⟩ := hT hk
    have P2 := H1 hk e
    have e1 : (1 : Int32) - 1 / 6 * 6 = nI 1 := by decide
    have c1 : (nI 1).toNatClampNeg = 1 := nI_clamp (by decide)
    dsimp only
    rw [e, e1, c1, t7]
    refine ml_has1 hk t7 T (br_f (by decide) ⟨by decide, pk_in 1 6 (by omega), ml_leafT T.1 ⟨pk_in 0 512 (by omega), ?_⟩⟩)
    rw [sb_cl0, T.2.1]
    exact P2
  · refine ml_has0 (l := 1) (by decide) (fun j hj e hk => ?_) (br_t rfl (H0 c))
    by_cases z : j = 0
    · rw [z]
      exact h7
    · rw [show j = 1 by omega] at e
      exact absurd ⟨hk, e⟩ c
end
section
/-- the law's flags: x7 put, x8 mine, x9 other -/
def ml_F (x0 x1 x3 x7 x8 x9 : Int32) : Prop := (x7 = 0 ↔ ¬ (ml_G x0 ∧ ml_K x1)) ∧ (x8 = 0 ↔ ¬ (ml_G x0 ∧ x3 = x0)) ∧ (x9 = 0 ↔ ¬ ml_G x3)
theorem ml_ne {a : Int32} {p : Prop} (h : a = 0 ↔ ¬ p) (hp : p) : ¬ a = 0 := fun z => h.mp z hp
theorem ml_of {a : Int32} {p : Prop} (h : a = 0 ↔ ¬ p) (ha : ¬ a = 0) : p := Classical.byContradiction (fun n => ha (h.mpr n))
theorem ml_290 {post : Int32 → St0 → Prop} {mc ms kc ks : Nat} {z0 z1 : Int32} (hp : post 1 ()) (e : z1 = z0) : wL_lawOf_290 post mc ms z0 z1 kc ks := br_t e hp
theorem ml_289 {post : Int32 → St0 → Prop} {mc ms kc ks : Nat} (hp : post 1 ()) : wL_lawOf_289 post mc ms 0 kc ks := ml_290 hp rfl
theorem ml_256 {post : Int32 → St0 → Prop} {mc ms kc ks : Nat} {x1 x2 x5 x7 x8 z0 z1 : Int32} {f0 f1 f2 : Int32} {a1 a2 a3 a4 a5 a6 a7 a8 a9 a10 a11 a12 a13 a14 a15 a16 a17 a18 : Nat → Int32} (hp : post 1 ()) (hz : z1 = z0)
    (hA : ∀ p : Int32 → Prop, (¬ x8 = 0 → ¬ x7 = 0 → x5 = 1 → p x2) → (¬ (¬ x8 = 0 ∧ ¬ x7 = 0 ∧ x5 = 1) → p 0) → wpX_at p (f0, f1, f2, a1, a2, a3, a4, a5, a6, a7, a8, a9, a10, a11, a12, a13, a14, a15, a16, a17, a18) x5 x1) :
    wL_lawOf_256 post mc ms x1 x2 x5 x7 x8 z0 z1 kc ks f0 f1 f2 a1 a2 a3 a4 a5 a6 a7 a8 a9 a10 a11 a12 a13 a14 a15 a16 a17 a18 := by
  unfold wL_lawOf_256
  exact br_t hz (hA _ (fun h8 h7 h5 => br_f h8 (br_f h7 (br_t h5 (ml_290 hp rfl)))) (fun h => br_c (fun _ => ml_289 hp) (fun h8 => br_c (fun _ => ml_289 hp) (fun h7 => br_c (fun h5 => absurd ⟨h8, h7, h5⟩ h) (fun _ => ml_289 hp)))))
theorem ml_225 {post : Int32 → St0 → Prop} {mc ms kc ks : Nat} {x0 x1 x2 x3 x5 x7 x8 x9 z0 z1 : Int32} {f2 : Int32} {a1 a2 a3 a4 a5 a6 a7 a8 a9 a10 a11 a12 a13 a14 a15 a16 a17 a18 : Nat → Int32} (hp : post 1 ()) (F : ml_F x0 x1 x3 x7 x8 x9) (P : ml_P x0 x1 x2 a6 a7 a8 a10 a12 a13 a14 a15) (hz : z1 = z0) :
    wL_lawOf_225 post mc ms x1 x2 x3 x5 x7 x8 x9 z0 z1 kc ks (nI 512) 0 f2 a1 a2 a3 a4 a5 a6 a7 a8 a9 a10 a11 a12 a13 a14 a15 a16 a17 a18 := by
  obtain ⟨F7, F8, F9⟩ := F
  unfold wL_lawOf_225
  refine br_t hz (ml_commit P (fun g => ?_) (fun g ne => ?_) (fun g e g0 g2 b1 b2 b3 b4 b7 b8 b10 b16 h7 hT => ?_))
  · have n8 : x8 = 0 := F8.mpr (fun z => g (by rw [z.2]; exact z.1))
    exact br_t (F9.mpr g) (ml_256 hp rfl (fun p h1 h0 => ml_atO P.2.1 (h0 (fun z => z.1 n8))))
  · have n8 : x8 = 0 := F8.mpr (fun z => ne z.2)
    exact br_f (ml_ne F9 g) (br_t n8 (ml_256 hp rfl (fun p h1 h0 => ml_atO P.2.1 (h0 (fun z => z.1 n8)))))
  · have gx : ml_G x0 := by rw [← e]; exact g
    have n8 : ¬ x8 = 0 := ml_ne F8 ⟨gx, e⟩
    exact br_f (ml_ne F9 g) (br_f n8 (ml_256 hp rfl (fun p h1 h0 => ml_atN h7 hT (fun hk hs => h1 n8 (ml_ne F7 ⟨gx, hk⟩) hs) (fun no => h0 (fun z => no ⟨(ml_of F7 z.2.1).2, z.2.2⟩)))))
theorem ml_175 {post : Int32 → St0 → Prop} {mc ms kc ks : Nat} {x0 x1 x2 x3 x4 x5 x7 x8 x9 z0 : Int32} {f2 : Int32} {a1 a2 a3 a4 a5 a6 a7 a8 a9 a10 a11 a12 a13 a14 a15 a16 a17 a18 : Nat → Int32} (hp : post 1 ()) (F : ml_F x0 x1 x3 x7 x8 x9) (P : ml_P x0 x1 x2 a6 a7 a8 a10 a12 a13 a14 a15) (hr : z0 = 0 ↔ ¬ ml_K x4) :
    wL_lawOf_175 post mc ms x1 x2 x3 x4 x5 x7 x8 x9 z0 kc ks (nI 512) 0 f2 a1 a2 a3 a4 a5 a6 a7 a8 a9 a10 a11 a12 a13 a14 a15 a16 a17 a18 := by
  have F' := F
  obtain ⟨F7, F8, F9⟩ := F'
  unfold wL_lawOf_175
  refine ml_read P (fun b => ?_) (fun g k ne => ?_) (fun g k e no b11 => ?_) (fun g k e hk ek b11 => ?_)
  · exact br_c (fun _ => ml_225 hp F P rfl) (fun h9 => br_t (hr.mpr (fun k => b ⟨ml_of F9 h9, k⟩)) (ml_225 hp F P rfl))
  · exact br_f (ml_ne F9 g) (br_f (ml_ne hr k) (br_t (F8.mpr (fun z => ne z.2)) (ml_225 hp F P rfl)))
  · have gx : ml_G x0 := by rw [← e]; exact g
    exact br_f (ml_ne F9 g) (br_f (ml_ne hr k) (br_f (ml_ne F8 ⟨gx, e⟩) (br_c (fun _ => ml_225 hp F P rfl) (fun h7 => br_c (fun ek => absurd ⟨(ml_of F7 h7).2, ek⟩ no) (fun _ => ml_225 hp F P rfl)))))
  · have gx : ml_G x0 := by rw [← e]; exact g
    exact br_f (ml_ne F9 g) (br_f (ml_ne hr k) (br_f (ml_ne F8 ⟨gx, e⟩) (br_f (ml_ne F7 ⟨gx, hk⟩) (br_t ek (ml_225 hp F P rfl)))))
theorem ml_153 {post : Int32 → St0 → Prop} {mc ms kc ks : Nat} {x0 x1 x2 x3 x4 x5 x7 x8 x9 z0 z1 : Int32} {f2 : Int32} {a1 a2 a3 a4 a5 a6 a7 a8 a9 a10 a11 a12 a13 a14 a15 a16 a17 a18 : Nat → Int32} (hp : post 1 ()) (F : ml_F x0 x1 x3 x7 x8 x9) (P : ml_P x0 x1 x2 a6 a7 a8 a10 a12 a13 a14 a15) (hz : z1 = z0) :
    wL_lawOf_153 post mc ms x1 x2 x3 x4 x5 x7 x8 x9 z0 z1 kc ks (nI 512) 0 f2 a1 a2 a3 a4 a5 a6 a7 a8 a9 a10 a11 a12 a13 a14 a15 a16 a17 a18 := by
  unfold wL_lawOf_153
  refine br_t hz (br_c (fun h => ?_) (fun h1 => br_c (fun h => ?_) (fun h2 => ?_)))
  · unfold wL_lawOf_174
    exact ml_175 hp F P ⟨fun _ z => ml_K_lo z h, fun _ => rfl⟩
  · unfold wL_lawOf_174
    exact ml_175 hp F P ⟨fun _ z => ml_K_hi z h, fun _ => rfl⟩
  · exact ml_175 hp F P ⟨fun z => absurd z (by decide), fun z => absurd (ml_K_of h1 h2) z⟩
theorem ml_119 {post : Int32 → St0 → Prop} {mc ms kc ks : Nat} {x0 x1 x2 x3 x4 x5 x7 x8 x9 z0 z1 : Int32} {f2 : Int32} {a1 a2 a3 a4 a5 a6 a7 a8 a9 a10 a11 a12 a13 a14 a15 a16 a17 a18 : Nat → Int32} (hp : post 1 ()) (F : ml_F x0 x1 x3 x7 x8 x9) (P : ml_P x0 x1 x2 a6 a7 a8 a10 a12 a13 a14 a15) (hz : z1 = z0) :
    wL_lawOf_119 post mc ms x1 x2 x3 x4 x5 x7 x8 x9 z0 z1 kc ks (nI 512) 0 f2 a1 a2 a3 a4 a5 a6 a7 a8 a9 a10 a11 a12 a13 a14 a15 a16 a17 a18 := by
  have F' := F
  obtain ⟨F7, F8, F9⟩ := F'
  unfold wL_lawOf_119
  refine br_t hz (ml_peek P (fun g e hk ek => ?_) (fun no => ?_))
  · have gx : ml_G x0 := by rw [← e]; exact g
    exact br_f (ml_ne F8 ⟨gx, e⟩) (br_f (ml_ne F7 ⟨gx, hk⟩) (br_t ek (ml_153 hp F P rfl)))
  · refine br_c (fun _ => ml_153 hp F P rfl) (fun h8 => br_c (fun _ => ml_153 hp F P rfl) (fun h7 => br_c (fun ek => absurd ?_ no) (fun _ => ml_153 hp F P rfl)))
    have m := ml_of F8 h8
    exact ⟨by rw [m.2]; exact m.1, m.2, (ml_of F7 h7).2, ek⟩
theorem ml_96 {post : Int32 → St0 → Prop} {mc ms kc ks : Nat} {x0 x1 x2 x3 x4 x5 x7 x8 x9 z0 z1 : Int32} {f2 : Int32} {a1 a2 a3 a4 a5 a6 a7 a8 a9 a10 a11 a12 a13 a14 a15 a16 a17 a18 : Nat → Int32} (hp : post 1 ()) (F : ml_F x0 x1 x3 x7 x8 x9) (hz : z1 = z0)
    (h6 : ∀ j, j < 512 → a6 j = nI (511 - j)) (h7 : a7 0 = -1) (h8 : ∀ i, i < 4 → (a8 i = 0 ↔ ¬ x0 = nI i)) (h10 : ∀ i, i < 4 → a10 i = -1) (h12 : ∀ i, i < 4 → x0 = nI i → a12 i = 0) :
    wL_lawOf_96 post mc ms x0 x1 x2 x3 x4 x5 x7 x8 x9 z0 z1 kc ks (nI 512) 0 f2 a1 a2 a3 a4 a5 a6 a7 a8 a9 a10 a11 a12 a13 a14 a15 a16 a17 a18 := by
  have F7 := F.1
  unfold wL_lawOf_96
  refine br_t hz (ml_write h8 h12 (fun no => ?_) (fun i hi e hk => ?_))
  · refine br_t (F7.mpr no) (ml_119 hp F ⟨h6, h7, h8, h10, fun i hi e => ⟨fun _ => h12 i hi e, fun hk => absurd ⟨⟨i, hi, e⟩, hk⟩ no⟩⟩ rfl)
  · refine br_f (ml_ne F7 ⟨⟨i, hi, e⟩, hk⟩) (ml_119 hp F ⟨h6, h7, h8, h10, fun j hj ej => ⟨fun n => absurd hk n, fun _ => ?_⟩⟩ rfl)
    have ij : j = i := (nI_eq (by omega) (by omega)).mp (by rw [← ej, e])
    rw [ij]
    exact ⟨pk_us, pk_us, pk_us, pk_us⟩
theorem ml_69 {post : Int32 → St0 → Prop} {x0 x1 x2 x3 x4 x5 x6 x7 x8 z0 : Int32} (hp : post 1 ()) (h6 : x6 = 0 ↔ ¬ ml_G x0) (F : ml_F x0 x1 x3 x7 x8 z0) :
    wL_lawOf_69 post 19 3751 x0 x1 x2 x3 x4 x5 x6 x7 x8 z0 0 0 := by
  unfold wL_lawOf_69
  refine ⟨by decide, by decide, 18, 3730, by decide, by decide, ml_init (fun b6 b7 b10 B6 B7 B10 => ?_)⟩
  refine ml_begin (B7 0 (by omega)) (fun i hi => rfl) (fun g => ?_) (fun i hi e => ?_)
  · exact br_t (h6.mpr g) (ml_96 hp F rfl B6 (B7 0 (by omega)) (fun i hi => ⟨fun _ e => g ⟨i, hi, e⟩, fun _ => rfl⟩) B10 (fun i hi e => absurd ⟨i, hi, e⟩ g))
  · refine br_f (ml_ne h6 ⟨i, hi, e⟩) (ml_96 hp F rfl B6 (B7 0 (by omega)) (fun j hj => ?_) (fun j hj => ?_) (fun j hj ej => ?_))
    · by_cases c : j = i
      · rw [c, pk_us]
        exact ⟨fun z => absurd z (by decide), fun z => absurd e z⟩
      · rw [pk_un c]
        exact ⟨fun _ ej => c ((nI_eq (by omega) (by omega)).mp (by rw [← ej, e])), fun _ => rfl⟩
    · by_cases c : j = i
      · rw [c, pk_us]
      · rw [pk_un c]
        exact B10 j hj
    · by_cases c : j = i
      · rw [c, pk_us]
      · rw [pk_un c]
theorem ml_53 {post : Int32 → St0 → Prop} {x0 x1 x2 x3 x4 x5 x6 x7 z0 : Int32} (hp : post 1 ()) (h6 : x6 = 0 ↔ ¬ ml_G x0) (h7 : x7 = 0 ↔ ¬ (ml_G x0 ∧ ml_K x1)) (h8 : z0 = 0 ↔ ¬ (ml_G x0 ∧ x3 = x0)) :
    wL_lawOf_53 post 19 3751 x0 x1 x2 x3 x4 x5 x6 x7 z0 0 0 := by
  unfold wL_lawOf_53
  exact br_c (fun h => ml_69 hp h6 ⟨h7, h8, fun _ z => ml_G_lo z h, fun _ => rfl⟩) (fun h1 => br_c (fun h => ml_69 hp h6 ⟨h7, h8, fun _ z => ml_G_hi z h, fun _ => rfl⟩) (fun h2 => ml_69 hp h6 ⟨h7, h8, fun z => absurd z (by decide), fun z => absurd (ml_G_of h1 h2) z⟩))
theorem ml_36 {post : Int32 → St0 → Prop} {x0 x1 x2 x3 x4 x5 x6 z0 : Int32} (hp : post 1 ()) (h6 : x6 = 0 ↔ ¬ ml_G x0) (h7 : z0 = 0 ↔ ¬ (ml_G x0 ∧ ml_K x1)) :
    wL_lawOf_36 post 19 3751 x0 x1 x2 x3 x4 x5 x6 z0 0 0 := by
  unfold wL_lawOf_36
  exact br_c (fun h => ml_53 hp h6 h7 ⟨fun _ z => h6.mp h z.1, fun _ => rfl⟩) (fun h => br_c (fun e => ml_53 hp h6 h7 ⟨fun z => absurd z (by decide), fun z => absurd ⟨ml_of h6 h, e⟩ z⟩) (fun ne => ml_53 hp h6 h7 ⟨fun _ z => ne z.2, fun _ => rfl⟩))
theorem ml_14 {post : Int32 → St0 → Prop} {x0 x1 x2 x3 x4 x5 z0 : Int32} (hp : post 1 ()) (h6 : z0 = 0 ↔ ¬ ml_G x0) :
    wL_lawOf_14 post 19 3751 x0 x1 x2 x3 x4 x5 z0 0 0 := by
  unfold wL_lawOf_14
  exact br_c (fun h => ml_36 hp h6 ⟨fun _ z => h6.mp h z.1, fun _ => rfl⟩) (fun h => br_c (fun a => ml_36 hp h6 ⟨fun _ z => ml_K_lo z.2 a, fun _ => rfl⟩) (fun a => br_c (fun b => ml_36 hp h6 ⟨fun _ z => ml_K_hi z.2 b, fun _ => rfl⟩) (fun b => ml_36 hp h6 ⟨fun z => absurd z (by decide), fun z => absurd ⟨ml_of h6 h, ml_K_of a b⟩ z⟩)))
theorem ml_lawOf {post : Int32 → St0 → Prop} {x0 x1 x2 x3 x4 x5 : Int32} (hp : post 1 ()) : wpL_lawOf post 19 3751 () x0 x1 x2 x3 x4 x5 := by
  unfold wpL_lawOf
  exact br_c (fun h => ml_14 hp ⟨fun _ z => ml_G_lo z h, fun _ => rfl⟩) (fun a => br_c (fun h => ml_14 hp ⟨fun _ z => ml_G_hi z h, fun _ => rfl⟩) (fun b => ml_14 hp ⟨fun z => absurd z (by decide), fun z => absurd (ml_G_of a b) z⟩))
theorem ml_cell {post : Int32 → Prop} {L : Nat} {xs : Nat → Int32} {u : St0} {p : Int32} (j : Nat) (hL : L ≤ 6) (hj : j ≤ 5) (e : p = nI j) (H : ∀ v, post v) : wpL_cellAt post L xs u p := by
  rw [e]
  unfold wpL_cellAt
  exact pk_le L j (fun _ => H _) (fun z => ⟨pk_in j L z, H _⟩)
theorem i_vc (xs : Nat → Int32) (L : Nat) (hL : L ≤ 6) : wpL_law (fun r => r = 1) L xs := by
  unfold wpL_law
  refine ml_cell 0 hL (by omega) rfl (fun _ => ml_cell 1 hL (by omega) rfl (fun _ => ml_cell 2 hL (by omega) rfl (fun _ => ml_cell 3 hL (by omega) rfl (fun _ => ml_cell 4 hL (by omega) rfl (fun _ => ml_cell 5 hL (by omega) rfl (fun _ => ?_))))))
  exact ⟨19, 3751, by decide, by decide, ml_lawOf rfl⟩
end
