section
/-! making the yard: init, joint, signal, put -/
theorem ri_fill {s : Nat → Int32} {i k : Nat} {x c : Int32} (hk : k = i) (h : ∀ j, j < i → s j = c) (hx : x = c) : ∀ j, j < i + 1 → upd s k x j = c := by
  intro j hj
  rw [hk]
  by_cases e : j = i
  · rw [e, pk_us, hx]
  · rw [pk_un e]
    exact h j (by omega)
theorem ri_b8 : ∀ n, n < 128 → (nI n).toInt8.toInt32 = nI n := by decide +kernel
theorem ri_dbl (n : Nat) : 2 * nI n = nI (2 * n) := pk_mul 2 n
theorem ri_half {n : Nat} (h : n < 2 ^ 31) : nI n / 2 = nI (n / 2) := pk_div (d := 2) h (by omega) (by omega)
theorem ri_cl {n : Nat} (h : n < 1000) : (nI n).toNatClampNeg = n := nI_clamp (by omega)
section
variable {jc fo rc sr oc wa : Int32} {a1 a2 a3 a4 a5 a6 a7 a8 a9 a10 a11 a12 a13 a14 a15 a16 a17 a18 a19 a20 a21 a22 a23 a24 a25 a26 : Nat → Int32}
theorem ri_init232 {post : St2 → Prop} {mc ms kc ks : Nat} (H : ∀ b21 b22 : Nat → Int32, (∀ j, j < 3 → b21 j = -1) → (∀ j, j < 3 → b22 j = -1) → post (jc, fo, rc, sr, oc, wa, a1, a2, a3, a4, a5, a6, a7, a8, a9, a10, a11, a12, a13, a14, a15, a16, a17, a18, a19, a20, b21, b22, a23, a24, a25, a26)) : ∃ n, wX_init_232 post mc ms kc ks jc fo rc sr oc wa n 0 a1 a2 a3 a4 a5 a6 a7 a8 a9 a10 a11 a12 a13 a14 a15 a16 a17 a18 a19 a20 a21 a22 a23 a24 a25 a26 :=
  pk_loop (σ := (Nat → Int32) × (Nat → Int32)) (fun n i s => wX_init_232 post mc ms kc ks jc fo rc sr oc wa n (nI i) a1 a2 a3 a4 a5 a6 a7 a8 a9 a10 a11 a12 a13 a14 a15 a16 a17 a18 a19 a20 s.1 s.2 a23 a24 a25 a26) (fun i s => (∀ j, j < i → s.1 j = -1) ∧ (∀ j, j < i → s.2 j = -1)) 3 0 (a21, a22) (by omega) ⟨lt_0, lt_0⟩
    (fun n s h => pk_le 3 3 (fun _ => H s.1 s.2 h.1 h.2) (fun z => absurd z (by omega)))
    (fun n i s hi h hw => pk_le 3 i (fun z => absurd z (by omega)) (fun _ => ⟨pk_in i 3 hi, nm_e ⟨pk_in i 3 hi, nm_e (nm_r (nI_1 i) (hw (upd s.1 (nI i).toNatClampNeg (-1), upd s.2 (nI i).toNatClampNeg (-1)) ⟨ri_fill (ri_cl (by omega)) h.1 rfl, ri_fill (ri_cl (by omega)) h.2 rfl⟩))⟩⟩))
theorem ri_init211 {post : St2 → Prop} {mc ms kc ks : Nat} (H : ∀ b19 b21 b22 : Nat → Int32, (∀ j, j < 10 → b19 j = -1) → (∀ j, j < 3 → b21 j = -1) → (∀ j, j < 3 → b22 j = -1) → post (jc, fo, rc, sr, oc, wa, a1, a2, a3, a4, a5, a6, a7, a8, a9, a10, a11, a12, a13, a14, a15, a16, a17, a18, b19, a20, b21, b22, a23, a24, a25, a26)) : ∃ n, wX_init_211 post mc ms kc ks jc fo rc sr oc wa n 0 a1 a2 a3 a4 a5 a6 a7 a8 a9 a10 a11 a12 a13 a14 a15 a16 a17 a18 a19 a20 a21 a22 a23 a24 a25 a26 :=
  pk_loop (fun n i s => wX_init_211 post mc ms kc ks jc fo rc sr oc wa n (nI i) a1 a2 a3 a4 a5 a6 a7 a8 a9 a10 a11 a12 a13 a14 a15 a16 a17 a18 s a20 a21 a22 a23 a24 a25 a26) (fun i s => ∀ j, j < i → s j = -1) 10 0 a19 (by omega) lt_0
    (fun n s h => pk_le 10 10 (fun _ => ri_init232 (fun b21 b22 h1 h2 => H s b21 b22 h h1 h2)) (fun z => absurd z (by omega)))
    (fun n i s hi h hw => pk_le 10 i (fun z => absurd z (by omega)) (fun _ => ⟨pk_in i 10 hi, nm_e (nm_r (nI_1 i) (hw _ (ri_fill (ri_cl (by omega)) h rfl)))⟩))
theorem ri_init {post : St2 → Prop} (H : ∀ b19 b21 b22 : Nat → Int32, (∀ j, j < 10 → b19 j = -1) → (∀ j, j < 3 → b21 j = -1) → (∀ j, j < 3 → b22 j = -1) → post (0, 0, 0, 0, 0, 0, (fun _ => 0), (fun _ => 0), (fun _ => 0), (fun _ => 0), (fun _ => 0), (fun _ => 0), (fun _ => 0), (fun _ => 0), (fun _ => 0), (fun _ => 0), (fun _ => 0), (fun _ => 0), (fun _ => 0), (fun _ => 0), (fun _ => 0), (fun _ => 0), (fun _ => 0), (fun _ => 0), b19, (fun _ => 0), b21, b22, (fun _ => 0), (fun _ => 0), (fun _ => 0), (fun _ => 0))) : wpX_init post 26 523 (0, 0, 0, 0, 0, 0) := by
  unfold wpX_init
  dsimp only
  refine ⟨by omega, by omega, by omega, by omega, by omega, by omega, by omega, by omega, by omega, by omega, by omega, by omega, by omega, by omega, by omega, by omega, by omega, by omega, by omega, by omega, by omega, by omega, by omega, by omega, by omega, by omega, by omega, by omega, by omega, by omega, by omega, by omega, by omega, by omega, by omega, by omega, by omega, by omega, by omega, by omega, by omega, by omega, by omega, by omega, by omega, by omega, by omega, by omega, by omega, by omega, by omega, by omega, ?_⟩
  exact ri_init211 H
theorem ri_isEnd {post : Int32 → Prop} {p : Nat} (hp : p < 20) (H : post 1) : wpX_isEnd post (jc, fo, rc, sr, oc, wa, a1, a2, a3, a4, a5, a6, a7, a8, a9, a10, a11, a12, a13, a14, a15, a16, a17, a18, a19, a20, a21, a22, a23, a24, a25, a26) (nI p) :=
  br_f (nI_pos (by omega)) (pk_le 20 p (fun z => absurd z (by omega)) (fun _ => H))
theorem ri_isQuiet {post : Int32 → Prop} (H : post 1) : wpX_isQuiet post (jc, fo, rc, 0, 0, wa, a1, a2, a3, a4, a5, a6, a7, a8, a9, a10, a11, a12, a13, a14, a15, a16, a17, a18, a19, a20, a21, a22, a23, a24, a25, a26) := br_t rfl (br_t rfl H)
theorem ri_joined {post : Int32 → Prop} {p : Nat} {q : Int32} (hp : p < 20) (h3 : a3 p = 0) (H : post 0) : wpX_areJoined post (jc, fo, rc, sr, oc, wa, a1, a2, a3, a4, a5, a6, a7, a8, a9, a10, a11, a12, a13, a14, a15, a16, a17, a18, a19, a20, a21, a22, a23, a24, a25, a26) (nI p) q :=
  ⟨1, And.intro (pk_in p 20 hp) (br_t (by rw [ri_cl (by omega), h3]; decide) H)⟩
theorem ri_hang {post : St2 → Prop} {p j : Nat} (hp : p < 20) (hj : j < 12) (h3 : a3 p = 0) (H : post (jc, fo, rc, sr, oc, wa, a1, a2, upd a3 p 1, upd a4 (2 * p) (nI j), a5, a6, a7, a8, a9, a10, a11, a12, a13, a14, a15, a16, a17, a18, a19, a20, a21, a22, a23, a24, a25, a26)) : wpX_hang post (jc, fo, rc, sr, oc, wa, a1, a2, a3, a4, a5, a6, a7, a8, a9, a10, a11, a12, a13, a14, a15, a16, a17, a18, a19, a20, a21, a22, a23, a24, a25, a26) (nI p) (nI j) := by
  have e1 : 2 * nI p + 0 = nI (2 * p) := by rw [ri_dbl, ← nI_0, nI_add, Nat.add_zero]
  unfold wpX_hang
  dsimp only
  rw [ri_cl (show p < 1000 by omega), h3, e1, ri_cl (show 2 * p < 1000 by omega), ri_b8 j (by omega)]
  exact ⟨pk_in p 20 hp, pk_in (2 * p) 40 (by omega), nm_e ⟨pk_in p 20 hp, pk_in p 20 hp, nm_r (e' := upd a3 p 1) rfl H⟩⟩
theorem ri_joint120 {post : Int32 → St2 → Prop} (H : ∀ b6 : Nat → Int32, post 1 (jc, 0, rc, sr, oc, wa, a1, a2, a3, a4, a5, b6, a7, a8, a9, a10, a11, a12, a13, a14, a15, a16, a17, a18, a19, a20, a21, a22, a23, a24, a25, a26)) : ∃ n, wX_joint_120 post jc fo rc sr oc wa n 0 a1 a2 a3 a4 a5 a6 a7 a8 a9 a10 a11 a12 a13 a14 a15 a16 a17 a18 a19 a20 a21 a22 a23 a24 a25 a26 :=
  pk_loop (fun n i s => wX_joint_120 post jc fo rc sr oc wa n (nI i) a1 a2 a3 a4 a5 s a7 a8 a9 a10 a11 a12 a13 a14 a15 a16 a17 a18 a19 a20 a21 a22 a23 a24 a25 a26) (fun _ _ => True) 20 0 a6 (by omega) trivial
    (fun n s _ => pk_le 20 20 (fun _ => H s) (fun z => absurd z (by omega)))
    (fun n i s hi _ hw => pk_le 20 i (fun z => absurd z (by omega)) (fun _ => ⟨pk_in i 20 hi, nm_e (nm_r (nI_1 i) (hw _ trivial))⟩))
theorem ri_joint {post : Int32 → St2 → Prop} {k p q : Nat} (hk : k < 12) (hp : p < 20) (hq : q < 20) (hne : p / 2 ≠ q / 2) (h3p : a3 p = 0) (h3q : a3 q = 0)
    (H : ∀ b6 : Nat → Int32, post 1 (nI (k + 1), 0, rc, 0, 0, wa, upd a1 k (nI p), upd a2 k (nI q), upd (upd a3 p 1) q 1, upd (upd a4 (2 * p) (nI k)) (2 * q) (nI k), a5, b6, a7, a8, a9, a10, a11, a12, a13, a14, a15, a16, a17, a18, a19, a20, a21, a22, a23, a24, a25, a26)) :
    wpX_joint post (nI k, fo, rc, 0, 0, wa, a1, a2, a3, a4, a5, a6, a7, a8, a9, a10, a11, a12, a13, a14, a15, a16, a17, a18, a19, a20, a21, a22, a23, a24, a25, a26) (nI p) (nI q) := by
  have hpq : q ≠ p := fun e => hne (by rw [e])
  unfold wpX_joint
  dsimp only
  refine pk_le 12 k (fun z => absurd z (by omega)) (fun _ => ?_)
  refine ri_isEnd hp (br_f (by decide) ?_)
  refine ri_isEnd hq (br_f (by decide) ⟨by decide, by decide, ?_⟩)
  refine pk_eq (p / 2) (q / 2) (fun z => absurd z hne) (fun _ => ?_) (ri_half (by omega)) (ri_half (by omega))
  refine ri_isQuiet (br_f (by decide) ?_)
  refine ⟨pk_in p 20 hp, br_f (by rw [ri_cl (show p < 1000 by omega), h3p]; decide) ⟨pk_in q 20 hq, br_f (by rw [ri_cl (show q < 1000 by omega), h3q]; decide) ?_⟩⟩
  refine ri_joined hp h3p (br_t rfl ?_)
  refine nm_r (nI_1 k) ⟨pk_in k 12 hk, nm_r (e' := upd a1 k (nI p)) (by rw [ri_cl (show k < 1000 by omega), ri_b8 p (by omega)]) ⟨pk_in k 12 hk, nm_r (e' := upd a2 k (nI q)) (by rw [ri_cl (show k < 1000 by omega), ri_b8 q (by omega)]) ?_⟩⟩
  refine ri_hang hp hk h3p ?_
  dsimp only
  refine ri_hang hq hk (by rw [pk_un hpq]; exact h3q) ?_
  exact ri_joint120 H
theorem ri_signal {post : Int32 → St2 → Prop} {p : Nat} (hp : p < 20) (h5 : a5 p = 0) (H : post 1 (jc, 0, rc, 0, 0, wa, a1, a2, a3, a4, upd a5 p 1, a6, a7, a8, a9, a10, a11, a12, a13, a14, a15, a16, a17, a18, a19, a20, a21, a22, a23, a24, a25, a26)) : wpX_signal post (jc, fo, rc, 0, 0, wa, a1, a2, a3, a4, a5, a6, a7, a8, a9, a10, a11, a12, a13, a14, a15, a16, a17, a18, a19, a20, a21, a22, a23, a24, a25, a26) (nI p) 1 := by
  unfold wpX_signal
  dsimp only
  refine ri_isEnd hp (br_f (by decide) ⟨pk_in p 20 hp, br_f (by rw [ri_cl (show p < 1000 by omega), h5]; decide) ?_⟩)
  refine ri_isQuiet (br_f (by decide) ⟨pk_in p 20 hp, nm_r (e' := upd a5 p 1) ?_ H⟩)
  rw [ri_cl (show p < 1000 by omega)]
  rfl
theorem ri_t1 : ∀ a, a < 8 → ((0 : Int32) >>> ((nI (2 * a + 1) / 2) &&& 31)) &&& 1 = 0 := by decide +kernel
theorem ri_t2 : ∀ a, a < 8 → (0 : Int32) ||| ((1 : Int32) <<< ((nI (2 * a + 1) / 2) &&& 31)) = nI (2 ^ a) := by decide +kernel
theorem ri_t3 : ∀ a, a < 8 → nI (2 * a + 1) / 2 = nI a := by decide +kernel
theorem ri_isTrain {post : Int32 → Prop} {p : Nat} (hp : p < 3) (H : post 1) : wpX_isTrain post (jc, fo, rc, sr, oc, wa, a1, a2, a3, a4, a5, a6, a7, a8, a9, a10, a11, a12, a13, a14, a15, a16, a17, a18, a19, a20, a21, a22, a23, a24, a25, a26) (nI p) :=
  br_f (nI_pos (by omega)) (pk_le 3 p (fun z => absurd z (by omega)) (fun _ => H))
theorem ri_put {post : Int32 → St2 → Prop} {a : Nat} (ha : a < 8) (h21 : a21 1 = -1) (h19 : a19 a = -1) (H : post 1 (jc, fo, rc, sr, nI (2 ^ a), wa, a1, a2, a3, a4, a5, a6, a7, a8, a9, a10, a11, a12, a13, a14, a15, a16, a17, a18, a19, a20, upd a21 1 (nI (2 * a + 1)), upd a22 1 (-1), a23, a24, a25, a26)) : wpX_put post (jc, fo, rc, sr, 0, wa, a1, a2, a3, a4, a5, a6, a7, a8, a9, a10, a11, a12, a13, a14, a15, a16, a17, a18, a19, a20, a21, a22, a23, a24, a25, a26) 1 (nI (2 * a + 1)) := by
  unfold wpX_put
  dsimp only
  refine ri_isTrain (p := 1) (by omega) (br_f (by decide) ⟨pk_in 1 3 (by omega), br_f (by show ¬ 0 ≤ a21 1; rw [h21]; decide) ?_⟩)
  refine ri_isEnd (by omega) (br_f (by decide) ⟨by decide, ?_⟩)
  refine br_t (ri_t1 a ha) (br_t rfl ⟨by decide, pk_in a 10 (by omega) (ri_t3 a ha), br_t (by rw [ri_t3 a ha, ri_cl (by omega), h19]; decide) ?_⟩)
  refine ⟨pk_in 1 3 (by omega), nm_r (e' := upd a21 1 (nI (2 * a + 1))) (by rw [ri_b8 _ (by omega)]; rfl) ⟨pk_in 1 3 (by omega), nm_r (e' := upd a22 1 (-1)) rfl ⟨by decide, nm_r (ri_t2 a ha) H⟩⟩⟩
end
end
section
/-! finding the route: addNeed, across, isVisited, takeRoute, follow, findRoutes, isRoute -/
def ri_Y (a : Nat) (a1 a2 a3 a4 a5 : Nat → Int32) : Prop :=
  (a1 0 = nI (2 * a + 1) ∧ a2 0 = nI (2 * a + 2) ∧ a1 1 = nI (2 * a + 3) ∧ a2 1 = nI (2 * a + 4)) ∧
  (a3 (2 * a + 1) = 1 ∧ a3 (2 * a + 2) = 1 ∧ a3 (2 * a + 3) = 1 ∧ a3 (2 * a + 4) = 1 ∧ a3 (2 * a + 5) = 0) ∧
  (a4 (2 * (2 * a + 1)) = 0 ∧ a4 (2 * (2 * a + 3)) = 1) ∧ a5 (2 * a + 1) = 1 ∧ (∀ j, j < 20 → j ≠ 2 * a + 1 → a5 j = 0)
def ri_R (a : Nat) (a7 a8 a9 a10 a11 a12 a13 : Nat → Int32) : Prop :=
  a7 0 = nI (2 * a + 1) ∧ a8 0 = 2 ∧ a9 0 = 0 ∧ a9 1 = 1 ∧ a10 0 = nI (2 * a + 2) ∧ a10 1 = nI (2 * a + 4) ∧ a11 0 = nI (6 * 2 ^ a) ∧ a12 0 = 0 ∧ a13 0 = 0
theorem ri_t4 : ∀ a, a < 8 → ¬ nI (2 * a + 1) / 2 = nI (2 * a + 2) / 2 := by decide +kernel
theorem ri_t5 : ∀ a, a < 8 → ¬ nI (2 * a + 1) / 2 = nI (2 * a + 4) / 2 := by decide +kernel
theorem ri_t6 : ∀ a, a < 8 → ¬ nI (2 * a + 2) / 2 = nI (2 * a + 4) / 2 := by decide +kernel
theorem ri_t7 : ∀ a, a < 8 → ((((0 : Int32) ||| ((1 : Int32) <<< ((nI (2 * a + 2) / 2) &&& 31))).toInt16.toInt32) ||| ((1 : Int32) <<< ((nI (2 * a + 4) / 2) &&& 31))).toInt16.toInt32 = nI (6 * 2 ^ a) := by decide +kernel
theorem ri_t8 : ∀ a, a < 8 → nI (2 * a + 2) ^^^ 1 = nI (2 * a + 3) := by decide +kernel
theorem ri_t9 : ∀ a, a < 8 → nI (2 * a + 4) ^^^ 1 = nI (2 * a + 5) := by decide +kernel
theorem ri_ne5 {d : Nat} (h : d < 5) : ¬ nI d = 5 := fun e => absurd ((nI_eq (b := 5) (by omega) (by omega)).mp e) (by omega)
theorem ri_dbl0 (n : Nat) : 2 * nI n + 0 = nI (2 * n) := by rw [ri_dbl, ← nI_0, nI_add, Nat.add_zero]
section
variable {jc fo rc sr oc wa : Int32} {a1 a2 a3 a4 a5 a6 a7 a8 a9 a10 a11 a12 a13 a14 a15 a16 a17 a18 a19 a20 a21 a22 a23 a24 a25 a26 : Nat → Int32}
theorem ri_addNeed {post : St2 → Prop} {p : Nat} {r j : Int32} (hp : p < 20) (h3 : a3 p = 1) (H : post (jc, fo, rc, sr, oc, wa, a1, a2, a3, a4, a5, a6, a7, a8, a9, a10, a11, a12, a13, a14, a15, a16, a17, a18, a19, a20, a21, a22, a23, a24, a25, a26)) : wpX_addNeed post (jc, fo, rc, sr, oc, wa, a1, a2, a3, a4, a5, a6, a7, a8, a9, a10, a11, a12, a13, a14, a15, a16, a17, a18, a19, a20, a21, a22, a23, a24, a25, a26) r (nI p) j :=
  And.intro (pk_in p 20 hp) (br_f (by rw [ri_cl (by omega), h3]; decide) H)
theorem ri_across {post : Int32 → Prop} {j p q : Nat} (hj : j < 12) (h1 : a1 j = nI p) (h2 : a2 j = nI q) (H : post (nI q)) : wpX_across post (jc, fo, rc, sr, oc, wa, a1, a2, a3, a4, a5, a6, a7, a8, a9, a10, a11, a12, a13, a14, a15, a16, a17, a18, a19, a20, a21, a22, a23, a24, a25, a26) (nI j) (nI p) :=
  And.intro (pk_in j 12 hj) (br_t (by rw [ri_cl (by omega), h1]) ⟨pk_in j 12 hj, by rw [ri_cl (by omega), h2]; exact H⟩)
theorem ri_vis0 {post : Int32 → Prop} {a : Nat} (ha : a < 8) (H : post 0) : wpX_isVisited post (jc, fo, rc, sr, oc, wa, a1, a2, a3, a4, a5, a6, a7, a8, a9, a10, a11, a12, a13, a14, a15, a16, a17, a18, a19, a20, a21, a22, a23, a24, a25, a26) (nI (2 * a + 1)) (nI 0) (nI (2 * a + 2) / 2) :=
  And.intro (by decide) (br_f (ri_t4 a ha) ⟨1, br_t (by decide) H⟩)
theorem ri_vis1 {post : Int32 → Prop} {a : Nat} (ha : a < 8) (h15 : a15 1 = nI (2 * a + 2)) (H : post 0) : wpX_isVisited post (jc, fo, rc, sr, oc, wa, a1, a2, a3, a4, a5, a6, a7, a8, a9, a10, a11, a12, a13, a14, a15, a16, a17, a18, a19, a20, a21, a22, a23, a24, a25, a26) (nI (2 * a + 1)) (nI 1) (nI (2 * a + 4) / 2) :=
  And.intro (by decide) (br_f (ri_t5 a ha) ⟨2, br_f (by decide) ⟨pk_in 1 6 (by omega), by decide, br_f (by show ¬ a15 1 / 2 = _; rw [h15]; exact ri_t6 a ha) (nm_e (br_t (by decide) H))⟩⟩)
theorem ri_tr79 {post : St2 → Prop} {J : Int32 → Int32 → Int32 → Int32 → Int32 → Int32 → Int32 → (Nat → Int32) → (Nat → Int32) → (Nat → Int32) → (Nat → Int32) → (Nat → Int32) → (Nat → Int32) → (Nat → Int32) → (Nat → Int32) → (Nat → Int32) → (Nat → Int32) → (Nat → Int32) → (Nat → Int32) → (Nat → Int32) → (Nat → Int32) → (Nat → Int32) → (Nat → Int32) → (Nat → Int32) → (Nat → Int32) → (Nat → Int32) → (Nat → Int32) → (Nat → Int32) → (Nat → Int32) → (Nat → Int32) → (Nat → Int32) → (Nat → Int32) → (Nat → Int32) → Prop} {x1 x2 : Int32} {k z e j : Nat} (hk : k < 5) (hz : z < 20) (he : e < 20) (hj : j < 12) (h15 : a15 (k + 1) = nI e) (h16 : a16 k = 1) (h4 : a4 (2 * z) = nI j) (h3z : a3 z = 1) (h3e : a3 e = 1)
    (hJ : J (nI (k + 1)) jc fo rc sr oc wa a1 a2 a3 a4 a5 a6 a7 a8 (upd a9 k (nI j)) (upd a10 k (nI e)) (upd a11 0 ((a11 0 ||| ((1 : Int32) <<< ((nI e / 2) &&& 31))).toInt16.toInt32)) a12 a13 a14 a15 a16 a17 a18 a19 a20 a21 a22 a23 a24 a25 a26) :
    wX_takeRoute_79 post J x1 x2 0 (nI k) (nI z) jc fo rc sr oc wa a1 a2 a3 a4 a5 a6 a7 a8 a9 a10 a11 a12 a13 a14 a15 a16 a17 a18 a19 a20 a21 a22 a23 a24 a25 a26 := by
  have e2 : 2 * nI z + 1 - 1 = nI (2 * z) := by rw [ri_dbl, nI_1, nI_pred]
  have e3 : 5 * (0 : Int32) + nI k = nI k := by
    rw [show 5 * (0 : Int32) = nI 0 from rfl, nI_add, Nat.zero_add]
  unfold wX_takeRoute_79
  rw [nI_1 k, ri_cl (show k + 1 < 1000 by omega), h15, ri_cl (show k < 1000 by omega), h16, e2, ri_cl (show 2 * z < 1000 by omega), h4, e3, ri_cl (show k < 1000 by omega), sb_cl0]
  refine ⟨pk_in (k + 1) 6 (by omega), nm_e ⟨pk_in k 6 (by omega), pk_in (2 * z) 40 (by omega), nm_e ⟨pk_in k 80 (by omega), nm_r (e' := upd a9 k (nI j)) (by rw [ri_b8 j (by omega)]) ⟨pk_in k 80 (by omega), nm_r (e' := upd a10 k (nI e)) (by rw [ri_b8 e (by omega)]) ⟨pk_in 0 16 (by omega), by decide, pk_in 0 16 (by omega), nm_e ?_⟩⟩⟩⟩⟩
  exact ri_addNeed hz h3z (ri_addNeed he h3e (nm_e hJ))
theorem ri_take {post : St2 → Prop} {a : Nat} (ha : a < 8) (hY : ri_Y a a1 a2 a3 a4 a5) (h15 : a15 1 = nI (2 * a + 2)) (h15' : a15 2 = nI (2 * a + 4)) (h16 : a16 0 = 1) (h16' : a16 1 = 1)
    (H : ∀ b7 b8 b9 b10 b11 b12 b13 : Nat → Int32, ri_R a b7 b8 b9 b10 b11 b12 b13 → post (jc, fo, 1, sr, oc, wa, a1, a2, a3, a4, a5, a6, b7, b8, b9, b10, b11, b12, b13, a14, a15, a16, a17, a18, a19, a20, a21, a22, a23, a24, a25, a26)) :
    wpX_takeRoute post (jc, fo, 0, sr, oc, wa, a1, a2, a3, a4, a5, a6, a7, a8, a9, a10, a11, a12, a13, a14, a15, a16, a17, a18, a19, a20, a21, a22, a23, a24, a25, a26) (nI (2 * a + 1)) (nI 2) := by
  obtain ⟨⟨y1, y2, y3, y4⟩, ⟨c1, c2, c3, c4, c5⟩, ⟨d1, d2⟩, s1, s2⟩ := hY
  unfold wpX_takeRoute
  dsimp only
  refine nm_r (e' := 1) rfl ⟨pk_in 0 16 (by omega), nm_r (e' := upd a7 0 (nI (2 * a + 1))) (by rw [ri_b8 _ (by omega), sb_cl0]) ⟨pk_in 0 16 (by omega), nm_r (e' := upd a8 0 2) rfl ⟨pk_in 0 16 (by omega), nm_r (e' := upd a11 0 0) rfl ⟨pk_in 0 16 (by omega), nm_r (e' := upd a12 0 0) rfl ⟨pk_in 0 16 (by omega), nm_r (e' := upd a13 0 0) rfl ⟨3, ?_⟩⟩⟩⟩⟩⟩
  refine br_f (by decide) (br_t rfl ?_)
  refine ri_tr79 (k := 0) (z := 2 * a + 1) (e := 2 * a + 2) (j := 0) (by omega) (by omega) (by omega) (by omega) h15 h16 d1 c1 c2 ?_
  refine br_f (by decide) (br_f (by decide) ⟨pk_in 1 6 (by omega), ?_⟩)
  rw [show a15 (nI (0 + 1)).toNatClampNeg ^^^ 1 = nI (2 * a + 3) from by rw [ri_cl (by omega), h15, ri_t8 a ha]]
  refine ri_tr79 (k := 1) (z := 2 * a + 3) (e := 2 * a + 4) (j := 1) (by omega) (by omega) (by omega) (by omega) h15' h16' d2 c3 c4 ?_
  refine br_t (by decide) ?_
  refine H _ _ _ _ _ _ _ ⟨pk_us, pk_us, ?_, pk_us, ?_, pk_us, ?_, pk_us, pk_us⟩
  · rw [pk_un (by omega), pk_us]
    rfl
  · rw [pk_un (by omega), pk_us]
  · rw [pk_us, pk_us, pk_us]
    exact ri_t7 a ha
theorem ri_back {post : St2 → Prop} {J : Int32 → Int32 → Int32 → Int32 → Int32 → Int32 → Int32 → (Nat → Int32) → (Nat → Int32) → (Nat → Int32) → (Nat → Int32) → (Nat → Int32) → (Nat → Int32) → (Nat → Int32) → (Nat → Int32) → (Nat → Int32) → (Nat → Int32) → (Nat → Int32) → (Nat → Int32) → (Nat → Int32) → (Nat → Int32) → (Nat → Int32) → (Nat → Int32) → (Nat → Int32) → (Nat → Int32) → (Nat → Int32) → (Nat → Int32) → (Nat → Int32) → (Nat → Int32) → (Nat → Int32) → (Nat → Int32) → (Nat → Int32) → (Nat → Int32) → Prop} {x1 y : Int32} {d z : Nat} (hd : d < 5) (hz : z < 20) (h16 : a16 d = 1) (h3 : a3 z = 1) (hy : nI d + (-1) = y) (hJ : J y jc fo rc sr oc wa a1 a2 a3 a4 a5 a6 a7 a8 a9 a10 a11 a12 a13 a14 a15 a16 a17 a18 a19 a20 a21 a22 a23 a24 a25 a26) : wX_follow_29 post J x1 (nI d) (nI z) jc fo rc sr oc wa a1 a2 a3 a4 a5 a6 a7 a8 a9 a10 a11 a12 a13 a14 a15 a16 a17 a18 a19 a20 a21 a22 a23 a24 a25 a26 :=
  br_f (ri_ne5 hd) ⟨pk_in d 6 (by omega), pk_in z 20 hz, br_t (by rw [ri_cl (show d < 1000 by omega), ri_cl (show z < 1000 by omega), h16, h3]) (nm_r hy hJ)⟩
theorem ri_in {post : St2 → Prop} {J : Int32 → Int32 → Int32 → Int32 → Int32 → Int32 → Int32 → (Nat → Int32) → (Nat → Int32) → (Nat → Int32) → (Nat → Int32) → (Nat → Int32) → (Nat → Int32) → (Nat → Int32) → (Nat → Int32) → (Nat → Int32) → (Nat → Int32) → (Nat → Int32) → (Nat → Int32) → (Nat → Int32) → (Nat → Int32) → (Nat → Int32) → (Nat → Int32) → (Nat → Int32) → (Nat → Int32) → (Nat → Int32) → (Nat → Int32) → (Nat → Int32) → (Nat → Int32) → (Nat → Int32) → (Nat → Int32) → (Nat → Int32) → (Nat → Int32) → Prop} {x1 : Int32} {d z e j f : Nat} (hd : d < 4) (hz : z < 20) (he : e < 20) (hj : j < 12) (hf : f < 20) (h16 : a16 d = 0) (h3 : a3 z = 1) (h4 : a4 (2 * z) = nI j) (h1 : a1 j = nI z) (h2 : a2 j = nI e) (hx : nI e ^^^ 1 = nI f) (h5 : a5 f = 0)
    (hv : ∀ p : Int32 → Prop, p 0 → wpX_isVisited p (jc, fo, rc, sr, oc, wa, a1, a2, a3, a4, a5, a6, a7, a8, a9, a10, a11, a12, a13, a14, a15, upd a16 d 1, a17, a18, a19, a20, a21, a22, a23, a24, a25, a26) x1 (nI d) (nI e / 2))
    (K : (a3 f = 0 → wX_follow_145 post J x1 (nI (d + 1)) jc fo rc sr oc wa a1 a2 a3 a4 a5 a6 a7 a8 a9 a10 a11 a12 a13 a14 (upd a15 (d + 1) (nI e)) (upd a16 d 1) a17 a18 a19 a20 a21 a22 a23 a24 a25 a26) ∧ (¬ a3 f = 0 → J (nI (d + 1)) jc fo rc sr oc wa a1 a2 a3 a4 a5 a6 a7 a8 a9 a10 a11 a12 a13 a14 (upd a15 (d + 1) (nI e)) (upd (upd a16 d 1) (d + 1) 0) a17 a18 a19 a20 a21 a22 a23 a24 a25 a26)) :
    wX_follow_29 post J x1 (nI d) (nI z) jc fo rc sr oc wa a1 a2 a3 a4 a5 a6 a7 a8 a9 a10 a11 a12 a13 a14 a15 a16 a17 a18 a19 a20 a21 a22 a23 a24 a25 a26 := by
  unfold wX_follow_29
  rw [ri_cl (show d < 1000 by omega), ri_cl (show z < 1000 by omega), h16, h3, ri_dbl0, ri_cl (show 2 * z < 1000 by omega), h4]
  refine br_f (ri_ne5 (by omega)) ⟨pk_in d 6 (by omega), pk_in z 20 hz, br_f (by decide) ⟨pk_in d 6 (by omega), pk_in (2 * z) 40 (by omega), nm_e ⟨pk_in d 6 (by omega), pk_in d 6 (by omega), nm_r (e' := upd a16 d 1) rfl ?_⟩⟩⟩
  refine ri_across hj h1 h2 ⟨by decide, ?_⟩
  refine hv _ (br_t rfl (nm_r (nI_1 d) ⟨pk_in (d + 1) 6 (by omega), nm_r (e' := upd a15 (d + 1) (nI e)) (by rw [ri_cl (show d + 1 < 1000 by omega), ri_b8 e (by omega)]) ?_⟩))
  rw [hx, ri_cl (show f < 1000 by omega), h5, ri_cl (show d + 1 < 1000 by omega)]
  exact ⟨pk_in f 20 hf, br_t rfl ⟨pk_in f 20 hf, br_c K.1 (fun h => ⟨pk_in (d + 1) 6 (by omega), nm_e (K.2 h)⟩)⟩⟩
theorem ri_follow {post : St2 → Prop} {a : Nat} (ha : a < 8) (hY : ri_Y a a1 a2 a3 a4 a5)
    (H : ∀ b7 b8 b9 b10 b11 b12 b13 b15 b16 : Nat → Int32, ri_R a b7 b8 b9 b10 b11 b12 b13 → post (jc, fo, 1, sr, oc, wa, a1, a2, a3, a4, a5, a6, b7, b8, b9, b10, b11, b12, b13, a14, b15, b16, a17, a18, a19, a20, a21, a22, a23, a24, a25, a26)) :
    wpX_follow post (jc, fo, 0, sr, oc, wa, a1, a2, a3, a4, a5, a6, a7, a8, a9, a10, a11, a12, a13, a14, a15, a16, a17, a18, a19, a20, a21, a22, a23, a24, a25, a26) (nI (2 * a + 1)) := by
  have hY' := hY
  obtain ⟨⟨y1, y2, y3, y4⟩, ⟨c1, c2, c3, c4, c5⟩, ⟨d1, d2⟩, s1, s2⟩ := hY'
  unfold wpX_follow
  dsimp only
  refine nm_e ⟨5, ?_⟩
  refine br_f (by decide) (br_t rfl ?_)
  refine ri_in (d := 0) (z := 2 * a + 1) (e := 2 * a + 2) (j := 0) (f := 2 * a + 3) (by omega) (by omega) (by omega) (by omega) (by omega) pk_us c1 d1 y1 y2 (ri_t8 a ha) (s2 _ (by omega) (by omega)) (fun p hp => ri_vis0 ha hp) (br_f (by rw [c3]; decide) ?_)
  refine br_f (by decide) (br_f (by decide) ⟨pk_in 1 6 (by omega), ?_⟩)
  rw [show upd a15 (0 + 1) (nI (2 * a + 2)) (nI (0 + 1)).toNatClampNeg ^^^ 1 = nI (2 * a + 3) from by rw [ri_cl (by omega), pk_us, ri_t8 a ha]]
  refine ri_in (d := 1) (z := 2 * a + 3) (e := 2 * a + 4) (j := 1) (f := 2 * a + 5) (by omega) (by omega) (by omega) (by omega) (by omega) pk_us c3 d2 y3 y4 (ri_t9 a ha) (s2 _ (by omega) (by omega)) (fun p hp => ri_vis1 ha pk_us hp) (br_t c5 ?_)
  refine br_f (by decide) ?_
  refine ri_take ha hY (by rw [pk_un (by omega), pk_us]) pk_us (by rw [pk_un (by omega), pk_un (by omega), pk_us]) pk_us (fun b7 b8 b9 b10 b11 b12 b13 hR => ?_)
  refine nm_r (e' := nI 1) (by decide) ?_
  refine br_f (by decide) (br_f (by decide) ⟨pk_in 1 6 (by omega), ?_⟩)
  rw [show upd (upd a15 (0 + 1) (nI (2 * a + 2))) (1 + 1) (nI (2 * a + 4)) (nI 1).toNatClampNeg ^^^ 1 = nI (2 * a + 3) from by rw [ri_cl (by omega), pk_un (by omega), pk_us, ri_t8 a ha]]
  refine ri_back (d := 1) (z := 2 * a + 3) (y := nI 0) (by omega) (by omega) pk_us c3 (by decide) ?_
  refine br_f (by decide) (br_t rfl ?_)
  refine ri_back (d := 0) (z := 2 * a + 1) (y := -1) (by omega) (by omega) (by rw [pk_un (by omega), pk_un (by omega), pk_us]) c1 (by decide) ?_
  exact br_t (by decide) (H _ _ _ _ _ _ _ _ _ hR)
theorem ri_inconf {post : Int32 → Prop} (H : post 1) : wpX_areInConflict post (jc, fo, rc, sr, oc, wa, a1, a2, a3, a4, a5, a6, a7, a8, a9, a10, a11, a12, a13, a14, a15, a16, a17, a18, a19, a20, a21, a22, a23, a24, a25, a26) 0 0 :=
  And.intro (pk_in 0 16 (by omega)) ⟨pk_in 0 16 (by omega), nm_e (br_t rfl H)⟩
theorem ri_conf {post : St2 → Prop} (H : ∀ b14 : Nat → Int32, post (jc, fo, 1, sr, oc, wa, a1, a2, a3, a4, a5, a6, a7, a8, a9, a10, a11, a12, a13, b14, a15, a16, a17, a18, a19, a20, a21, a22, a23, a24, a25, a26)) : ∃ n, wX_findRoutes_48 post jc fo 1 sr oc wa n 0 a1 a2 a3 a4 a5 a6 a7 a8 a9 a10 a11 a12 a13 a14 a15 a16 a17 a18 a19 a20 a21 a22 a23 a24 a25 a26 := by
  refine ⟨2, br_f (by decide) ⟨pk_in 0 16 (by omega), nm_e ⟨2, br_f (by decide) ?_⟩⟩⟩
  refine ri_inconf (br_f (by decide) ⟨pk_in 0 16 (by omega), pk_in 0 16 (by omega), nm_e (nm_e ?_)⟩)
  exact br_t (by decide) (nm_e (br_t (by decide) (H _)))
theorem ri_skip {post : St2 → Prop} {n : Nat} : ∀ d i : Nat, i + d ≤ 20 → (∀ j, i ≤ j → j < i + d → a5 j = 0) → wX_findRoutes_20 post n (nI (i + d)) jc fo rc sr oc wa a1 a2 a3 a4 a5 a6 a7 a8 a9 a10 a11 a12 a13 a14 a15 a16 a17 a18 a19 a20 a21 a22 a23 a24 a25 a26 → wX_findRoutes_20 post (n + d) (nI i) jc fo rc sr oc wa a1 a2 a3 a4 a5 a6 a7 a8 a9 a10 a11 a12 a13 a14 a15 a16 a17 a18 a19 a20 a21 a22 a23 a24 a25 a26 := by
  intro d
  induction d with
  | zero => exact fun i _ _ h => h
  | succ d ih =>
    intro i hi h5 h
    have h' : wX_findRoutes_20 post (n + d) (nI (i + 1)) jc fo rc sr oc wa a1 a2 a3 a4 a5 a6 a7 a8 a9 a10 a11 a12 a13 a14 a15 a16 a17 a18 a19 a20 a21 a22 a23 a24 a25 a26 := ih (i + 1) (by omega) (fun j h1 h2 => h5 j (by omega) (by omega)) (by rw [show i + 1 + d = i + (d + 1) by omega]; exact h)
    exact pk_le 20 i (fun z => absurd z (by omega)) (fun _ => ⟨pk_in i 20 (by omega), br_t (by rw [ri_cl (by omega)]; exact h5 i (by omega) (by omega)) (nm_r (nI_1 i) h')⟩)
theorem ri_find {post : St2 → Prop} {a : Nat} (ha : a < 8) (hY : ri_Y a a1 a2 a3 a4 a5)
    (H : ∀ b7 b8 b9 b10 b11 b12 b13 b14 b15 b16 : Nat → Int32, ri_R a b7 b8 b9 b10 b11 b12 b13 → post (jc, 1, 1, sr, oc, wa, a1, a2, a3, a4, a5, a6, b7, b8, b9, b10, b11, b12, b13, b14, b15, b16, a17, a18, a19, a20, a21, a22, a23, a24, a25, a26)) :
    wpX_findRoutes post (jc, 0, rc, sr, oc, wa, a1, a2, a3, a4, a5, a6, a7, a8, a9, a10, a11, a12, a13, a14, a15, a16, a17, a18, a19, a20, a21, a22, a23, a24, a25, a26) := by
  have hY' := hY
  obtain ⟨_, _, _, s1, s2⟩ := hY'
  refine br_t rfl ⟨(1 + (18 - 2 * a)) + 1 + (2 * a + 1), ?_⟩
  refine ri_skip (2 * a + 1) 0 (by omega) (fun j _ hj => s2 j (by omega) (by omega)) ?_
  rw [Nat.zero_add]
  refine pk_le 20 (2 * a + 1) (fun z => absurd z (by omega)) (fun _ => ⟨pk_in (2 * a + 1) 20 (by omega), br_f (by rw [ri_cl (by omega), s1]; decide) ?_⟩)
  refine ri_follow ha hY (fun b7 b8 b9 b10 b11 b12 b13 b15 b16 hR => nm_r (nI_1 _) ?_)
  refine ri_skip (18 - 2 * a) (2 * a + 1 + 1) (by omega) (fun j h1 h2 => s2 j (by omega) (by omega)) ?_
  refine pk_le 20 (2 * a + 1 + 1 + (18 - 2 * a)) (fun _ => ?_) (fun z => absurd z (by omega))
  exact ri_conf (fun b14 => H _ _ _ _ _ _ _ _ _ _ hR)
theorem ri_isRoute0 {post : Int32 → St2 → Prop} {a : Nat} (ha : a < 8) (hY : ri_Y a a1 a2 a3 a4 a5)
    (H : ∀ b7 b8 b9 b10 b11 b12 b13 b14 b15 b16 : Nat → Int32, ri_R a b7 b8 b9 b10 b11 b12 b13 → post 1 (jc, 1, 1, sr, oc, wa, a1, a2, a3, a4, a5, a6, b7, b8, b9, b10, b11, b12, b13, b14, b15, b16, a17, a18, a19, a20, a21, a22, a23, a24, a25, a26)) :
    wpX_isRoute post (jc, 0, rc, sr, oc, wa, a1, a2, a3, a4, a5, a6, a7, a8, a9, a10, a11, a12, a13, a14, a15, a16, a17, a18, a19, a20, a21, a22, a23, a24, a25, a26) 0 := by
  unfold wpX_isRoute
  dsimp only
  exact ri_find ha hY (fun b7 b8 b9 b10 b11 b12 b13 b14 b15 b16 hR => br_f (by decide) (br_f (by show ¬ (1 : Int32) ≤ 0; decide) (H b7 b8 b9 b10 b11 b12 b13 b14 b15 b16 hR)))
theorem ri_isRoute1 {post : Int32 → St2 → Prop} (H : post 1 (jc, 1, 1, sr, oc, wa, a1, a2, a3, a4, a5, a6, a7, a8, a9, a10, a11, a12, a13, a14, a15, a16, a17, a18, a19, a20, a21, a22, a23, a24, a25, a26)) : wpX_isRoute post (jc, 1, 1, sr, oc, wa, a1, a2, a3, a4, a5, a6, a7, a8, a9, a10, a11, a12, a13, a14, a15, a16, a17, a18, a19, a20, a21, a22, a23, a24, a25, a26) 0 := by
  unfold wpX_isRoute
  dsimp only
  exact br_f (by decide) (br_f (by decide) (br_f (by show ¬ (1 : Int32) ≤ 0; decide) H))
end
end
section
/-! setting the route, and ticks -/
theorem ri_cl1 : (1 : Int32).toNatClampNeg = 1 := by decide
theorem ri_50 (k : Nat) : 5 * (0 : Int32) + nI k = nI k := by
  rw [show 5 * (0 : Int32) = nI 0 from rfl, nI_add, Nat.zero_add]
theorem ri_t10 : ∀ k, k < 20 → ((0 : Int32) >>> (nI k &&& 31)) &&& 1 = 0 := by decide +kernel
theorem ri_t11 : ∀ a, a < 8 → nI (6 * 2 ^ a) &&& nI (2 ^ a) = 0 := by decide +kernel
theorem ri_t12 : ∀ a, a < 8 → nI (6 * 2 ^ a) &&& 0 = 0 := by decide +kernel
theorem ri_t13 : ∀ a, a < 8 → ¬ nI (6 * 2 ^ a) &&& nI (2 ^ (a + 2)) = 0 := by decide +kernel
theorem ri_t14 : ∀ a, a < 8 → nI (2 * a + 2) / 2 = nI (a + 1) := by decide +kernel
theorem ri_t15 : ∀ a, a < 8 → nI (2 * a + 4) / 2 = nI (a + 2) := by decide +kernel
theorem ri_t16 : ∀ a, a < 8 → (nI (2 ^ a) &&& (((1 : Int32) <<< ((nI (2 * a + 1) / 2) &&& 31)) ^^^ (-1))) ||| ((1 : Int32) <<< ((nI (2 * a + 2) / 2) &&& 31)) = nI (2 ^ (a + 1)) := by decide +kernel
theorem ri_t17 : ∀ a, a < 8 → (nI (2 ^ (a + 1)) &&& (((1 : Int32) <<< ((nI (2 * a + 3) / 2) &&& 31)) ^^^ (-1))) ||| ((1 : Int32) <<< ((nI (2 * a + 4) / 2) &&& 31)) = nI (2 ^ (a + 2)) := by decide +kernel
section
variable {jc fo rc sr oc wa : Int32} {a1 a2 a3 a4 a5 a6 a7 a8 a9 a10 a11 a12 a13 a14 a15 a16 a17 a18 a19 a20 a21 a22 a23 a24 a25 a26 : Nat → Int32}
theorem ri_locked0 {post : Int32 → Prop} (h19 : ∀ j, j < 10 → a19 j = -1) (H : post 0) : wpX_lockedSections post (jc, fo, rc, sr, oc, wa, a1, a2, a3, a4, a5, a6, a7, a8, a9, a10, a11, a12, a13, a14, a15, a16, a17, a18, a19, a20, a21, a22, a23, a24, a25, a26) :=
  pk_loop (σ := Unit) (fun n i _ => wX_lockedSections_4 post jc fo rc sr oc wa a1 a2 a3 a4 a5 a6 a7 a8 a9 a10 a11 a12 a13 a14 a15 a16 a17 a18 a19 a20 a21 a22 a23 a24 a25 a26 n 0 (nI i)) (fun _ _ => True) 10 0 () (by omega) trivial
    (fun n _ _ => pk_le 10 10 (fun _ => H) (fun z => absurd z (by omega)))
    (fun n i _ hi _ hw => pk_le 10 i (fun z => absurd z (by omega)) (fun _ => ⟨pk_in i 10 hi, br_t (by rw [ri_cl (by omega), h19 i hi]; decide) (nm_r (nI_1 i) (hw () trivial))⟩))
theorem ri_must {post : Int32 → Prop} {k : Nat} (hk : k < 20) (h12 : a12 0 = 0) (H : post 0) : wpX_mustTurn post (jc, fo, rc, sr, oc, wa, a1, a2, a3, a4, a5, a6, a7, a8, a9, a10, a11, a12, a13, a14, a15, a16, a17, a18, a19, a20, a21, a22, a23, a24, a25, a26) 0 (nI k) :=
  And.intro (pk_in 0 16 (by omega)) (br_t (by rw [sb_cl0, h12]; exact ri_t10 k hk) H)
theorem ri_why44 {post : Int32 → Prop} (h12 : a12 0 = 0) (H : post 0) : ∃ n, wX_whyNot_44 post 0 jc fo rc sr oc wa a1 a2 a3 a4 a5 a6 a7 a8 a9 a10 a11 a12 a13 a14 a15 a16 a17 a18 a19 a20 a21 a22 a23 a24 a25 a26 n 0 :=
  pk_loop (σ := Unit) (fun n i _ => wX_whyNot_44 post 0 jc fo rc sr oc wa a1 a2 a3 a4 a5 a6 a7 a8 a9 a10 a11 a12 a13 a14 a15 a16 a17 a18 a19 a20 a21 a22 a23 a24 a25 a26 n (nI i)) (fun _ _ => True) 20 0 () (by omega) trivial
    (fun n _ _ => pk_le 20 20 (fun _ => H) (fun z => absurd z (by omega)))
    (fun n i _ hi _ hw => pk_le 20 i (fun z => absurd z (by omega)) (fun _ => ri_must hi h12 (br_t rfl (nm_r (nI_1 i) (hw () trivial)))))
theorem ri_why0 {post : Int32 → Prop} {a : Nat} (ha : a < 8) (h11 : a11 0 = nI (6 * 2 ^ a)) (h12 : a12 0 = 0) (h19 : ∀ j, j < 10 → a19 j = -1) (H : post 0) : wpX_whyNot post (jc, fo, rc, 0, nI (2 ^ a), wa, a1, a2, a3, a4, a5, a6, a7, a8, a9, a10, a11, a12, a13, a14, a15, a16, a17, a18, a19, a20, a21, a22, a23, a24, a25, a26) 0 := by
  unfold wpX_whyNot
  dsimp only
  rw [sb_cl0, h11]
  refine br_t (by decide) (br_t rfl ⟨pk_in 0 16 (by omega), br_t (ri_t11 a ha) ⟨pk_in 0 16 (by omega), ?_⟩⟩)
  exact ri_locked0 h19 (br_t (ri_t12 a ha) (ri_why44 h12 H))
theorem ri_why1 {post : Int32 → Prop} (H : post 1) : wpX_whyNot post (jc, fo, rc, 1, oc, wa, a1, a2, a3, a4, a5, a6, a7, a8, a9, a10, a11, a12, a13, a14, a15, a16, a17, a18, a19, a20, a21, a22, a23, a24, a25, a26) 0 := by
  unfold wpX_whyNot
  dsimp only
  exact br_f (by decide) (br_f (by decide) H)
theorem ri_why2 {post : Int32 → Prop} {a : Nat} (ha : a < 8) (h11 : a11 0 = nI (6 * 2 ^ a)) (H : post 2) : wpX_whyNot post (jc, fo, rc, 0, nI (2 ^ (a + 2)), wa, a1, a2, a3, a4, a5, a6, a7, a8, a9, a10, a11, a12, a13, a14, a15, a16, a17, a18, a19, a20, a21, a22, a23, a24, a25, a26) 0 := by
  unfold wpX_whyNot
  dsimp only
  rw [sb_cl0, h11]
  exact br_t (by decide) (br_t rfl ⟨pk_in 0 16 (by omega), br_f (ri_t13 a ha) H⟩)
theorem ri_cn {post : St2 → Prop} {m : Int32} {j u v : Nat} (hj : j < 12) (hu : u < 20) (hv : v < 20) (h1 : a1 j = nI u) (h2 : a2 j = nI v) (h3u : a3 u = 1) (h3v : a3 v = 1) (H : post (jc, fo, rc, sr, oc, wa, a1, a2, a3, a4, a5, a6, a7, a8, a9, a10, a11, a12, a13, a14, a15, a16, a17, a18, a19, a20, a21, a22, a23, a24, a25, a26)) : wpX_countNeeds post (jc, fo, rc, sr, oc, wa, a1, a2, a3, a4, a5, a6, a7, a8, a9, a10, a11, a12, a13, a14, a15, a16, a17, a18, a19, a20, a21, a22, a23, a24, a25, a26) (nI j) m := by
  unfold wpX_countNeeds wX_countNeeds_31
  dsimp only
  rw [ri_cl (show j < 1000 by omega), h1, h2, ri_cl (show u < 1000 by omega), ri_cl (show v < 1000 by omega), h3u, h3v]
  exact ⟨pk_in j 12 hj, pk_in u 20 hu, br_f (by decide) ⟨pk_in j 12 hj, pk_in v 20 hv, br_f (by decide) H⟩⟩
theorem ri_set80t {post : Int32 → St2 → Prop} {n k e s j u v : Nat} (hk : k < 2) (h8 : a8 0 = 2) (h10 : a10 k = nI e) (he : nI e / 2 = nI s) (hs : s < 10) (h9 : a9 k = nI j) (hj : j < 12) (hu : u < 20) (hv : v < 20) (h1 : a1 j = nI u) (h2 : a2 j = nI v) (h3u : a3 u = 1) (h3v : a3 v = 1)
    (hn : wX_set_80 post 0 n (nI (k + 1)) jc fo rc sr oc wa a1 a2 a3 a4 a5 a6 a7 a8 a9 a10 a11 a12 a13 a14 a15 a16 a17 a18 (upd a19 s 0) a20 a21 a22 a23 a24 a25 a26) : wX_set_80 post 0 (n + 1) (nI k) jc fo rc sr oc wa a1 a2 a3 a4 a5 a6 a7 a8 a9 a10 a11 a12 a13 a14 a15 a16 a17 a18 a19 a20 a21 a22 a23 a24 a25 a26 := by
  refine And.intro (pk_in 0 16 (by omega)) (br_f (by rw [sb_cl0, h8]; exact nI_ge (b := 2) hk (by omega)) ?_)
  rw [ri_50, ri_cl (show k < 1000 by omega), h10, he, ri_cl (show s < 1000 by omega), h9]
  refine ⟨pk_in k 80 (by omega), by decide, pk_in s 10 hs, nm_r (e' := upd a19 s 0) rfl ⟨pk_in k 80 (by omega), ?_⟩⟩
  exact ri_cn hj hu hv h1 h2 h3u h3v (nm_r (nI_1 k) hn)
theorem ri_set46 {post : Int32 → St2 → Prop} (h12 : a12 0 = 0) (H : ∃ n, wX_set_80 post 0 n 0 jc fo rc sr oc wa a1 a2 a3 a4 a5 a6 a7 a8 a9 a10 a11 a12 a13 a14 a15 a16 a17 a18 a19 a20 a21 a22 a23 a24 a25 a26) : ∃ n, wX_set_46 post 0 jc fo rc sr oc wa n 0 a1 a2 a3 a4 a5 a6 a7 a8 a9 a10 a11 a12 a13 a14 a15 a16 a17 a18 a19 a20 a21 a22 a23 a24 a25 a26 :=
  pk_loop (σ := Unit) (fun n i _ => wX_set_46 post 0 jc fo rc sr oc wa n (nI i) a1 a2 a3 a4 a5 a6 a7 a8 a9 a10 a11 a12 a13 a14 a15 a16 a17 a18 a19 a20 a21 a22 a23 a24 a25 a26) (fun _ _ => True) 20 0 () (by omega) trivial
    (fun n _ _ => pk_le 20 20 (fun _ => H) (fun z => absurd z (by omega)))
    (fun n i _ hi _ hw => pk_le 20 i (fun z => absurd z (by omega)) (fun _ => ri_must hi h12 (br_t rfl (nm_r (nI_1 i) (hw () trivial)))))
theorem ri_set {post : Int32 → St2 → Prop} {a : Nat} (ha : a < 8) (hY : ri_Y a a1 a2 a3 a4 a5) (h19 : ∀ j, j < 10 → a19 j = -1)
    (H : ∀ b7 b8 b9 b10 b11 b12 b13 b14 b15 b16 : Nat → Int32, ri_R a b7 b8 b9 b10 b11 b12 b13 → post 1 (jc, 1, 1, 1, nI (2 ^ a), wa, a1, a2, a3, a4, a5, a6, b7, b8, b9, b10, b11, b12, b13, b14, b15, b16, upd a17 0 0, upd a18 0 (-1), upd (upd a19 (a + 1) 0) (a + 2) 0, a20, a21, a22, a23, a24, a25, a26)) :
    wpX_set post (jc, 0, rc, 0, nI (2 ^ a), wa, a1, a2, a3, a4, a5, a6, a7, a8, a9, a10, a11, a12, a13, a14, a15, a16, a17, a18, a19, a20, a21, a22, a23, a24, a25, a26) 0 := by
  unfold wpX_set
  dsimp only
  refine ri_isRoute0 ha hY (fun b7 b8 b9 b10 b11 b12 b13 b14 b15 b16 hR => ?_)
  dsimp only
  refine br_f (by decide) ?_
  have hR' := hR
  obtain ⟨r7, r8, r9, r9', r10, r10', r11, r12, r13⟩ := hR'
  obtain ⟨⟨y1, y2, y3, y4⟩, ⟨c1, c2, c3, c4, c5⟩, ⟨d1, d2⟩, s1, s2⟩ := hY
  refine ri_why0 ha r11 r12 h19 (br_t rfl (nm_r (e' := 1) (by decide) ⟨pk_in 0 16 (by omega), nm_r (e' := upd a17 0 0) rfl ⟨pk_in 0 16 (by omega), nm_r (e' := upd a18 0 (-1)) rfl ?_⟩⟩))
  refine ri_set46 r12 ⟨3, ?_⟩
  refine ri_set80t (n := 2) (k := 0) (e := 2 * a + 2) (s := a + 1) (j := 0) (u := 2 * a + 1) (v := 2 * a + 2) (by omega) r8 r10 (ri_t14 a ha) (by omega) r9 (by omega) (by omega) (by omega) y1 y2 c1 c2 ?_
  refine ri_set80t (n := 1) (k := 1) (e := 2 * a + 4) (s := a + 2) (j := 1) (u := 2 * a + 3) (v := 2 * a + 4) (by omega) r8 r10' (ri_t15 a ha) (by omega) r9' (by omega) (by omega) (by omega) y3 y4 c3 c4 ?_
  exact And.intro (pk_in 0 16 (by omega)) (br_t (by rw [sb_cl0, r8]; decide) (H b7 b8 b9 b10 b11 b12 b13 b14 b15 b16 hR))
theorem ri_relAt {post : St2 → Prop} {k e s j u v : Nat} (hk : k < 2) (h10 : a10 k = nI e) (he : nI e / 2 = nI s) (hs : s < 10) (h9 : a9 k = nI j) (hj : j < 12) (hu : u < 20) (hv : v < 20) (h1 : a1 j = nI u) (h2 : a2 j = nI v) (h3u : a3 u = 1) (h3v : a3 v = 1)
    (H : post (jc, fo, rc, sr, oc, wa, a1, a2, a3, a4, a5, a6, a7, a8, a9, a10, a11, a12, a13, a14, a15, a16, a17, a18, upd a19 s (-1), a20, a21, a22, a23, a24, a25, a26)) : wpX_releaseAt post (jc, fo, rc, sr, oc, wa, a1, a2, a3, a4, a5, a6, a7, a8, a9, a10, a11, a12, a13, a14, a15, a16, a17, a18, a19, a20, a21, a22, a23, a24, a25, a26) 0 (nI k) := by
  unfold wpX_releaseAt
  dsimp only
  rw [ri_50, ri_cl (show k < 1000 by omega), h10, he, ri_cl (show s < 1000 by omega), h9]
  refine ⟨pk_in k 80 (by omega), by decide, pk_in s 10 hs, nm_e ⟨pk_in k 80 (by omega), ?_⟩⟩
  exact ri_cn hj hu hv h1 h2 h3u h3v H
theorem ri_cd {post : St2 → Prop} (h17 : a17 0 = 0) (H : post (jc, fo, 1, sr, oc, wa, a1, a2, a3, a4, a5, a6, a7, a8, a9, a10, a11, a12, a13, a14, a15, a16, a17, a18, a19, a20, a21, a22, a23, a24, a25, a26)) : wpX_countDown post (jc, fo, 1, sr, oc, wa, a1, a2, a3, a4, a5, a6, a7, a8, a9, a10, a11, a12, a13, a14, a15, a16, a17, a18, a19, a20, a21, a22, a23, a24, a25, a26) :=
  ⟨2, br_f (by decide) (br_c (fun _ => br_t rfl (nm_e (br_t (by decide) H))) (fun _ => br_f (by decide) ⟨pk_in 0 16 (by omega), br_t (by rw [sb_cl0]; exact h17) (nm_e (br_t (by decide) H))⟩))⟩
theorem ri_clear0 {post : Int32 → Prop} {x : Int32} (h7 : a7 0 = x) (h17 : a17 0 = 0) (h18 : a18 0 = -1) (H : post 0) : wpX_clearRoute post (jc, fo, 1, 1, oc, wa, a1, a2, a3, a4, a5, a6, a7, a8, a9, a10, a11, a12, a13, a14, a15, a16, a17, a18, a19, a20, a21, a22, a23, a24, a25, a26) x :=
  ⟨1, br_f (by decide) (br_f (by decide) (br_f (by decide) ⟨pk_in 0 16 (by omega), br_t (by rw [sb_cl0]; exact h7) ⟨pk_in 0 16 (by omega), br_t (by rw [sb_cl0]; exact h17) ⟨pk_in 0 16 (by omega), br_f (by rw [sb_cl0, h18]; decide) H⟩⟩⟩))⟩
theorem ri_clear2 {post : Int32 → Prop} {x : Int32} (H : post (-1)) : wpX_clearRoute post (jc, fo, 1, 0, oc, wa, a1, a2, a3, a4, a5, a6, a7, a8, a9, a10, a11, a12, a13, a14, a15, a16, a17, a18, a19, a20, a21, a22, a23, a24, a25, a26) x :=
  ⟨2, br_f (by decide) (br_t (by decide) (br_t rfl (nm_e (br_t (by decide) H))))⟩
theorem ri_move0 {post : Int32 → St2 → Prop} {a : Nat} (ha : a < 8) (hR : ri_R a a7 a8 a9 a10 a11 a12 a13) (h17 : a17 0 = 0) (h18 : a18 0 = -1) (h21 : a21 1 = nI (2 * a + 1)) (h22 : a22 1 = -1)
    (H : post 1 (jc, fo, 1, 1, nI (2 ^ (a + 1)), wa, a1, a2, a3, a4, a5, a6, a7, a8, a9, a10, a11, a12, a13, a14, a15, a16, a17, upd a18 0 1, a19, a20, upd a21 1 (nI (2 * a + 3)), upd a22 1 0, upd (upd a23 1 0) 1 1, a24, a25, a26)) :
    wpX_moveTrain post (jc, fo, 1, 1, nI (2 ^ a), wa, a1, a2, a3, a4, a5, a6, a7, a8, a9, a10, a11, a12, a13, a14, a15, a16, a17, a18, a19, a20, a21, a22, a23, a24, a25, a26) 1 := by
  obtain ⟨r7, r8, r9, r9', r10, r10', r11, r12, r13⟩ := hR
  unfold wpX_moveTrain
  dsimp only
  rw [ri_cl1, h22, h21]
  refine ⟨pk_in 1 3 (by omega), nm_e (br_f (by decide) ⟨pk_in 1 3 (by omega), ?_⟩)⟩
  refine ri_clear0 r7 h17 h18 (br_t (by decide) ⟨pk_in 1 3 (by omega), nm_r (e' := upd a22 1 0) rfl ⟨pk_in 0 16 (by omega), nm_r (e' := upd a18 0 1) rfl ⟨pk_in 1 3 (by omega), nm_r (e' := upd a23 1 0) rfl ?_⟩⟩⟩)
  unfold wX_moveTrain_51
  rw [ri_cl1, h21]
  refine ⟨pk_in 1 3 (by omega), nm_r (e' := 0) pk_us ⟨pk_in 0 80 (by omega), nm_r (e' := nI (2 * a + 2)) r10 ⟨pk_in 1 3 (by omega), by decide, nm_e ⟨by decide, nm_r (ri_t16 a ha) (br_t (by decide) ?_)⟩⟩⟩⟩
  unfold wX_moveTrain_118
  rw [ri_cl1, ri_t8 a ha, ri_b8 _ (by omega)]
  exact ⟨pk_in 1 3 (by omega), nm_e ⟨pk_in 1 3 (by omega), pk_in 1 3 (by omega), nm_r (e' := upd (upd a23 1 0) 1 1) (by rw [pk_us]; rfl) ⟨pk_in 1 3 (by omega), pk_in 0 16 (by omega), br_f (by rw [pk_us, sb_cl0, r8]; decide) H⟩⟩⟩
theorem ri_rel1 {post : St2 → Prop} {a : Nat} (ha : a < 8) (hY : ri_Y a a1 a2 a3 a4 a5) (hR : ri_R a a7 a8 a9 a10 a11 a12 a13) (H : post (jc, fo, rc, 0, oc, wa, a1, a2, a3, a4, a5, a6, a7, a8, a9, a10, a11, a12, a13, a14, a15, a16, a17, a18, upd a19 (a + 2) (-1), a20, a21, a22, a23, a24, a25, a26)) : wpX_release post (jc, fo, rc, 1, oc, wa, a1, a2, a3, a4, a5, a6, a7, a8, a9, a10, a11, a12, a13, a14, a15, a16, a17, a18, a19, a20, a21, a22, a23, a24, a25, a26) 0 (nI 1) := by
  obtain ⟨r7, r8, r9, r9', r10, r10', r11, r12, r13⟩ := hR
  obtain ⟨⟨y1, y2, y3, y4⟩, ⟨c1, c2, c3, c4, c5⟩, ⟨d1, d2⟩, s1, s2⟩ := hY
  unfold wpX_release
  dsimp only
  refine nm_r (e' := 0) (by decide) ⟨2, And.intro (pk_in 0 16 (by omega)) (br_f (by rw [sb_cl0, r8]; decide) ?_)⟩
  refine ri_relAt (k := 1) (e := 2 * a + 4) (s := a + 2) (j := 1) (u := 2 * a + 3) (v := 2 * a + 4) (by omega) r10' (ri_t15 a ha) (by omega) r9' (by omega) (by omega) (by omega) y3 y4 c3 c4 ?_
  exact nm_e (And.intro (pk_in 0 16 (by omega)) (br_t (by rw [sb_cl0, r8]; decide) H))
theorem ri_move1 {post : Int32 → St2 → Prop} {a : Nat} (ha : a < 8) (hY : ri_Y a a1 a2 a3 a4 a5) (hR : ri_R a a7 a8 a9 a10 a11 a12 a13) (h21 : a21 1 = nI (2 * a + 3)) (h22 : a22 1 = 0) (h23 : a23 1 = 1)
    (H : post 1 (jc, fo, 1, 0, nI (2 ^ (a + 2)), wa, a1, a2, a3, a4, a5, a6, a7, a8, a9, a10, a11, a12, a13, a14, a15, a16, a17, a18, upd (upd a19 (a + 1) (-1)) (a + 2) (-1), a20, upd a21 1 (nI (2 * a + 5)), upd a22 1 (-1), upd a23 1 2, a24, a25, a26)) :
    wpX_moveTrain post (jc, fo, 1, 1, nI (2 ^ (a + 1)), wa, a1, a2, a3, a4, a5, a6, a7, a8, a9, a10, a11, a12, a13, a14, a15, a16, a17, a18, a19, a20, a21, a22, a23, a24, a25, a26) 1 := by
  have hR' := hR
  have hY' := hY
  obtain ⟨r7, r8, r9, r9', r10, r10', r11, r12, r13⟩ := hR'
  obtain ⟨⟨y1, y2, y3, y4⟩, ⟨c1, c2, c3, c4, c5⟩, ⟨d1, d2⟩, s1, s2⟩ := hY'
  unfold wpX_moveTrain
  dsimp only
  rw [ri_cl1, h22]
  refine ⟨pk_in 1 3 (by omega), nm_e (br_t (by decide) ?_)⟩
  unfold wX_moveTrain_51
  rw [ri_cl1, h21, h23]
  refine ⟨pk_in 1 3 (by omega), nm_e ⟨pk_in 1 80 (by omega), nm_r (e' := nI (2 * a + 4)) r10' ⟨pk_in 1 3 (by omega), by decide, nm_e ⟨by decide, nm_r (ri_t17 a ha) (br_f (by decide) ?_)⟩⟩⟩⟩
  refine ri_relAt (k := 0) (e := 2 * a + 2) (s := a + 1) (j := 0) (u := 2 * a + 1) (v := 2 * a + 2) (by omega) r10 (ri_t14 a ha) (by omega) r9 (by omega) (by omega) (by omega) y1 y2 c1 c2 ?_
  dsimp only
  unfold wX_moveTrain_118
  rw [ri_cl1, ri_t9 a ha, ri_b8 _ (by omega), h23]
  refine ⟨pk_in 1 3 (by omega), nm_e ⟨pk_in 1 3 (by omega), pk_in 1 3 (by omega), nm_r (e' := upd a23 1 2) rfl ⟨pk_in 1 3 (by omega), pk_in 0 16 (by omega), br_t (by rw [pk_us, sb_cl0, r8]) ?_⟩⟩⟩
  exact ri_rel1 ha hY hR ⟨pk_in 1 3 (by omega), nm_e H⟩
theorem ri_move2 {post : Int32 → St2 → Prop} (h22 : a22 1 = -1) (H : post 0 (jc, fo, 1, 0, oc, wa, a1, a2, a3, a4, a5, a6, a7, a8, a9, a10, a11, a12, a13, a14, a15, a16, a17, a18, a19, a20, a21, a22, a23, a24, a25, a26)) : wpX_moveTrain post (jc, fo, 1, 0, oc, wa, a1, a2, a3, a4, a5, a6, a7, a8, a9, a10, a11, a12, a13, a14, a15, a16, a17, a18, a19, a20, a21, a22, a23, a24, a25, a26) 1 := by
  unfold wpX_moveTrain
  dsimp only
  rw [ri_cl1, h22]
  exact ⟨pk_in 1 3 (by omega), nm_e (br_f (by decide) ⟨pk_in 1 3 (by omega), ri_clear2 (br_f (by decide) H)⟩)⟩
end
end
section
/-! ticks: three phases -/
def ri_D (a k : Nat) (sr oc : Int32) (a18 a19 a21 a22 a23 : Nat → Int32) : Prop :=
  (a21 0 = -1 ∧ a21 2 = -1) ∧
  ((k = 0 ∧ sr = 1 ∧ oc = nI (2 ^ a) ∧ a18 0 = -1 ∧ a19 (a + 1) = 0 ∧ a19 (a + 2) = 0 ∧ a21 1 = nI (2 * a + 1) ∧ a22 1 = -1) ∨
   (k = 1 ∧ sr = 1 ∧ oc = nI (2 ^ (a + 1)) ∧ a19 (a + 1) = 0 ∧ a19 (a + 2) = 0 ∧ a21 1 = nI (2 * a + 3) ∧ a22 1 = 0 ∧ a23 1 = 1) ∨
   (k = 2 ∧ sr = 0 ∧ oc = nI (2 ^ (a + 2)) ∧ a19 (a + 1) = -1 ∧ a19 (a + 2) = -1 ∧ a21 1 = nI (2 * a + 5) ∧ a22 1 = -1))
def ri_C (x : Int32) (c : Nat) : Prop := c ≤ 20 ∧ ((0 ≤ x ∧ x ≤ 20 ∧ x = nI c) ∨ (0 ≤ x ∧ ¬ x ≤ 20 ∧ c = 20) ∨ (¬ 0 ≤ x ∧ c = 0))
section
variable {jc fo rc sr oc wa : Int32} {a1 a2 a3 a4 a5 a6 a7 a8 a9 a10 a11 a12 a13 a14 a15 a16 a17 a18 a19 a20 a21 a22 a23 a24 a25 a26 : Nat → Int32}
theorem ri_step {post : Int32 → St2 → Prop} {J : Int32 → Int32 → Int32 → Int32 → Int32 → Int32 → Int32 → Int32 → (Nat → Int32) → (Nat → Int32) → (Nat → Int32) → (Nat → Int32) → (Nat → Int32) → (Nat → Int32) → (Nat → Int32) → (Nat → Int32) → (Nat → Int32) → (Nat → Int32) → (Nat → Int32) → (Nat → Int32) → (Nat → Int32) → (Nat → Int32) → (Nat → Int32) → (Nat → Int32) → (Nat → Int32) → (Nat → Int32) → (Nat → Int32) → (Nat → Int32) → (Nat → Int32) → (Nat → Int32) → (Nat → Int32) → (Nat → Int32) → (Nat → Int32) → (Nat → Int32) → Prop} {a i : Nat} {x2 : Int32} (ha : a < 8) (hY : ri_Y a a1 a2 a3 a4 a5) (hR : ri_R a a7 a8 a9 a10 a11 a12 a13) (h17 : a17 0 = 0) (hD : ri_D a (min i 2) sr oc a18 a19 a21 a22 a23)
    (hJ : ∀ (sr' oc' : Int32) (b18 b19 b21 b22 b23 : Nat → Int32), ri_D a (min (i + 1) 2) sr' oc' b18 b19 b21 b22 b23 → J (nI (min (i + 1) 2)) (nI (i + 1)) jc fo 1 sr' oc' wa a1 a2 a3 a4 a5 a6 a7 a8 a9 a10 a11 a12 a13 a14 a15 a16 a17 b18 b19 a20 b21 b22 b23 a24 a25 a26) :
    ∃ n, wX_tick_43 post J x2 (nI i) n (nI (min i 2)) 0 jc fo 1 sr oc wa a1 a2 a3 a4 a5 a6 a7 a8 a9 a10 a11 a12 a13 a14 a15 a16 a17 a18 a19 a20 a21 a22 a23 a24 a25 a26 := by
  obtain ⟨⟨h0, h2⟩, hD⟩ := hD
  refine ⟨4, br_f (by decide) ⟨pk_in 0 3 (by omega), br_t (by rw [sb_cl0, h0]; decide) (nm_r (e' := 1) (by decide) (br_f (by decide) ⟨pk_in 1 3 (by omega), ?_⟩))⟩⟩
  rcases hD with ⟨hk, rfl, rfl, h18, l1, l2, h21, h22⟩ | ⟨hk, rfl, rfl, l1, l2, h21, h22, h23⟩ | ⟨hk, rfl, rfl, l1, l2, h21, h22⟩
  · refine br_f (by rw [ri_cl1, h21]; exact nI_pos (by omega)) ?_
    refine ri_move0 ha hR h17 h18 h21 h22 (br_f (by decide) (nm_r (e' := nI (min (i + 1) 2)) ?_ (nm_r (e' := 2) (by decide) ?_)))
    · rw [nI_1, hk, show min (i + 1) 2 = 0 + 1 by omega]
    · refine br_f (by decide) ⟨pk_in 2 3 (by omega), br_t ?_ (nm_r (e' := 3) (by decide) (br_t (by decide) (nm_r (nI_1 i) (hJ _ _ _ _ _ _ _ ?_))))⟩
      · show upd a21 1 _ 2 < 0
        rw [pk_un (by omega), h2]
        decide
      · refine ⟨⟨by rw [pk_un (by omega), h0], by rw [pk_un (by omega), h2]⟩, Or.inr (Or.inl ⟨by omega, rfl, rfl, l1, l2, pk_us, pk_us, pk_us⟩)⟩
  · refine br_f (by rw [ri_cl1, h21]; exact nI_pos (by omega)) ?_
    refine ri_move1 ha hY hR h21 h22 h23 (br_f (by decide) (nm_r (e' := nI (min (i + 1) 2)) ?_ (nm_r (e' := 2) (by decide) ?_)))
    · rw [nI_1, hk, show min (i + 1) 2 = 1 + 1 by omega]
    · refine br_f (by decide) ⟨pk_in 2 3 (by omega), br_t ?_ (nm_r (e' := 3) (by decide) (br_t (by decide) (nm_r (nI_1 i) (hJ _ _ _ _ _ _ _ ?_))))⟩
      · show upd a21 1 _ 2 < 0
        rw [pk_un (by omega), h2]
        decide
      · refine ⟨⟨by rw [pk_un (by omega), h0], by rw [pk_un (by omega), h2]⟩, Or.inr (Or.inr ⟨by omega, rfl, rfl, ?_, pk_us, pk_us, pk_us⟩)⟩
        rw [pk_un (by omega), pk_us]
  · refine br_f (by rw [ri_cl1, h21]; exact nI_pos (by omega)) ?_
    have hk' : min (i + 1) 2 = min i 2 := by omega
    rw [hk'] at hJ
    refine ri_move2 h22 (br_t rfl (nm_r (e' := 2) (by decide) ?_))
    refine br_f (by decide) ⟨pk_in 2 3 (by omega), br_t ?_ (nm_r (e' := 3) (by decide) (br_t (by decide) (nm_r (nI_1 i) (hJ _ _ _ _ _ _ _ ?_))))⟩
    · show a21 2 < 0
      rw [h2]
      decide
    · exact ⟨⟨h0, h2⟩, Or.inr (Or.inr ⟨hk, rfl, rfl, l1, l2, h21, h22⟩)⟩
theorem ri_tick30 {post : Int32 → St2 → Prop} {a c : Nat} (ha : a < 8) (hY : ri_Y a a1 a2 a3 a4 a5) (hR : ri_R a a7 a8 a9 a10 a11 a12 a13) (h17 : a17 0 = 0) (hc : c ≤ 20) (hD : ri_D a 0 sr oc a18 a19 a21 a22 a23)
    (H : ∀ (sr' oc' : Int32) (b18 b19 b21 b22 b23 : Nat → Int32), ri_D a (min c 2) sr' oc' b18 b19 b21 b22 b23 → post (nI (min c 2)) (jc, fo, 1, sr', oc', wa, a1, a2, a3, a4, a5, a6, a7, a8, a9, a10, a11, a12, a13, a14, a15, a16, a17, b18, b19, a20, b21, b22, b23, a24, a25, a26)) :
    ∃ n, wX_tick_30 post (nI c) n 0 0 jc fo 1 sr oc wa a1 a2 a3 a4 a5 a6 a7 a8 a9 a10 a11 a12 a13 a14 a15 a16 a17 a18 a19 a20 a21 a22 a23 a24 a25 a26 := by
  refine pk_loop (σ := Int32 × Int32 × (Nat → Int32) × (Nat → Int32) × (Nat → Int32) × (Nat → Int32) × (Nat → Int32)) (fun n i s => wX_tick_30 post (nI c) n (nI (min i 2)) (nI i) jc fo 1 s.1 s.2.1 wa a1 a2 a3 a4 a5 a6 a7 a8 a9 a10 a11 a12 a13 a14 a15 a16 a17 s.2.2.1 s.2.2.2.1 a20 s.2.2.2.2.1 s.2.2.2.2.2.1 s.2.2.2.2.2.2 a24 a25 a26) (fun i s => ri_D a (min i 2) s.1 s.2.1 s.2.2.1 s.2.2.2.1 s.2.2.2.2.1 s.2.2.2.2.2.1 s.2.2.2.2.2.2) c 0 (sr, oc, a18, a19, a21, a22, a23) (by omega) hD ?_ ?_
  · intro n s h
    exact pk_le c c (fun _ => H _ _ _ _ _ _ _ h) (fun z => absurd z (by omega))
  · intro n i s hi h hw
    refine pk_le c i (fun z => absurd z (by omega)) (fun _ => ri_cd h17 ?_)
    exact ri_step ha hY hR h17 h (fun sr' oc' b18 b19 b21 b22 b23 hD' => hw (sr', oc', b18, b19, b21, b22, b23) hD')
theorem ri_tick {post : Int32 → St2 → Prop} {a c : Nat} {x : Int32} (ha : a < 8) (hY : ri_Y a a1 a2 a3 a4 a5) (hR : ri_R a a7 a8 a9 a10 a11 a12 a13) (h17 : a17 0 = 0) (hc : ri_C x c) (hD : ri_D a 0 sr oc a18 a19 a21 a22 a23)
    (H : ∀ (sr' oc' : Int32) (b18 b19 b21 b22 b23 : Nat → Int32), ri_D a (min c 2) sr' oc' b18 b19 b21 b22 b23 → post (nI (min c 2)) (jc, 1, 1, sr', oc', wa, a1, a2, a3, a4, a5, a6, a7, a8, a9, a10, a11, a12, a13, a14, a15, a16, a17, b18, b19, a20, b21, b22, b23, a24, a25, a26)) :
    wpX_tick post (jc, 1, 1, sr, oc, wa, a1, a2, a3, a4, a5, a6, a7, a8, a9, a10, a11, a12, a13, a14, a15, a16, a17, a18, a19, a20, a21, a22, a23, a24, a25, a26) x := by
  unfold wpX_tick
  dsimp only
  obtain ⟨hc1, hc2⟩ := hc
  have T := ri_tick30 (jc := jc) (fo := 1) (wa := wa) (a6 := a6) (a14 := a14) (a15 := a15) (a16 := a16) (a20 := a20) (a24 := a24) (a25 := a25) (a26 := a26) ha hY hR h17 hc1 hD H
  refine br_f (by decide) ?_
  rcases hc2 with ⟨q1, q2, rfl⟩ | ⟨q1, q2, rfl⟩ | ⟨q1, rfl⟩
  · exact br_t q1 (br_t q2 T)
  · exact br_t q1 (br_f q2 T)
  · exact br_f q1 T
end
end
section
/-! the answers, and the law -/
theorem ri_e1 (a : Nat) : 2 * nI a + 1 = nI (2 * a + 1) := by rw [ri_dbl, nI_1]
theorem ri_e2 (a : Nat) : 2 * nI a + 2 = nI (2 * a + 2) := by rw [ri_dbl]; exact nI_add (2 * a) 2
theorem ri_e3 (a : Nat) : 2 * nI a + 3 = nI (2 * a + 3) := by rw [ri_dbl]; exact nI_add (2 * a) 3
theorem ri_e4 (a : Nat) : 2 * nI a + 4 = nI (2 * a + 4) := by rw [ri_dbl]; exact nI_add (2 * a) 4
theorem ri_u0 : ∀ a, a < 8 → nI (2 * a + 1) + 0 = nI (2 * a + 1) + 2 * nI 0 + 0 := by decide +kernel
theorem ri_u1 : ∀ a, a < 8 → nI (2 * a + 3) + 100 * (0 + 1) = nI (2 * a + 1) + 2 * nI 1 + 100 := by decide +kernel
theorem ri_u2 : ∀ a, a < 8 → nI (2 * a + 5) + 0 = nI (2 * a + 1) + 2 * nI 2 + 0 := by decide +kernel
section
variable {jc fo rc sr oc wa : Int32} {a1 a2 a3 a4 a5 a6 a7 a8 a9 a10 a11 a12 a13 a14 a15 a16 a17 a18 a19 a20 a21 a22 a23 a24 a25 a26 : Nat → Int32}
theorem ri_trainA {post : Int32 → Prop} {p : Nat} (hp : p < 100) (h21 : a21 1 = nI p) (h22 : a22 1 = 0) (H : post (nI p + 100 * (0 + 1))) : wpX_train post (jc, fo, rc, sr, oc, wa, a1, a2, a3, a4, a5, a6, a7, a8, a9, a10, a11, a12, a13, a14, a15, a16, a17, a18, a19, a20, a21, a22, a23, a24, a25, a26) 1 := by
  unfold wpX_train
  dsimp only
  rw [ri_cl1, h21, h22]
  exact ri_isTrain (p := 1) (by omega) (br_f (by decide) ⟨pk_in 1 3 (by omega), br_t (nI_pos' (by omega)) ⟨pk_in 1 3 (by omega), pk_in 1 3 (by omega), br_t (by decide) ⟨pk_in 1 3 (by omega), H⟩⟩⟩)
theorem ri_trainB {post : Int32 → Prop} {p : Nat} (hp : p < 100) (h21 : a21 1 = nI p) (h22 : a22 1 = -1) (H : post (nI p + 0)) : wpX_train post (jc, fo, rc, sr, oc, wa, a1, a2, a3, a4, a5, a6, a7, a8, a9, a10, a11, a12, a13, a14, a15, a16, a17, a18, a19, a20, a21, a22, a23, a24, a25, a26) 1 := by
  unfold wpX_train
  dsimp only
  rw [ri_cl1, h21, h22]
  exact ri_isTrain (p := 1) (by omega) (br_f (by decide) ⟨pk_in 1 3 (by omega), br_t (nI_pos' (by omega)) ⟨pk_in 1 3 (by omega), pk_in 1 3 (by omega), br_f (by decide) H⟩⟩)
theorem ri_lock0 {post : Int32 → Prop} {s : Nat} {x : Int32} (hs : s < 10) (hx : x = nI s) (h19 : a19 s = 0) (H : post 0) : wpX_lock post (jc, fo, rc, sr, oc, wa, a1, a2, a3, a4, a5, a6, a7, a8, a9, a10, a11, a12, a13, a14, a15, a16, a17, a18, a19, a20, a21, a22, a23, a24, a25, a26) x := by
  subst hx
  unfold wpX_lock
  dsimp only
  rw [ri_cl (show s < 1000 by omega), h19]
  exact br_f (nI_pos (by omega)) (br_t (nI_lt (b := 10) hs (by omega)) ⟨pk_in s 10 hs, br_t (by decide) ⟨pk_in s 10 hs, H⟩⟩)
theorem ri_lockN {post : Int32 → Prop} {s : Nat} {x : Int32} (hs : s < 10) (hx : x = nI s) (h19 : a19 s = -1) (H : post (-2)) : wpX_lock post (jc, fo, rc, sr, oc, wa, a1, a2, a3, a4, a5, a6, a7, a8, a9, a10, a11, a12, a13, a14, a15, a16, a17, a18, a19, a20, a21, a22, a23, a24, a25, a26) x := by
  subst hx
  unfold wpX_lock
  dsimp only
  rw [ri_cl (show s < 1000 by omega), h19]
  exact br_f (nI_pos (by omega)) (br_t (nI_lt (b := 10) hs (by omega)) ⟨pk_in s 10 hs, br_f (by decide) H⟩)
theorem ri_blk1 {post : Int32 → St2 → Prop} (H : post 1 (jc, 1, 1, 1, oc, wa, a1, a2, a3, a4, a5, a6, a7, a8, a9, a10, a11, a12, a13, a14, a15, a16, a17, a18, a19, a20, a21, a22, a23, a24, a25, a26)) : wpX_blocked post (jc, 1, 1, 1, oc, wa, a1, a2, a3, a4, a5, a6, a7, a8, a9, a10, a11, a12, a13, a14, a15, a16, a17, a18, a19, a20, a21, a22, a23, a24, a25, a26) 0 := by
  unfold wpX_blocked
  dsimp only
  exact ri_isRoute1 (br_f (by decide) (ri_why1 H))
theorem ri_blk2 {post : Int32 → St2 → Prop} {a : Nat} (ha : a < 8) (h11 : a11 0 = nI (6 * 2 ^ a)) (H : post 2 (jc, 1, 1, 0, nI (2 ^ (a + 2)), wa, a1, a2, a3, a4, a5, a6, a7, a8, a9, a10, a11, a12, a13, a14, a15, a16, a17, a18, a19, a20, a21, a22, a23, a24, a25, a26)) : wpX_blocked post (jc, 1, 1, 0, nI (2 ^ (a + 2)), wa, a1, a2, a3, a4, a5, a6, a7, a8, a9, a10, a11, a12, a13, a14, a15, a16, a17, a18, a19, a20, a21, a22, a23, a24, a25, a26) 0 := by
  unfold wpX_blocked
  dsimp only
  exact ri_isRoute1 (br_f (by decide) (ri_why2 ha h11 H))
theorem ri_end {post : Int32 → St0 → Prop} {mc ms kc ks a m : Nat} (ha : a < 8) (hR : ri_R a a7 a8 a9 a10 a11 a12 a13) (hD : ri_D a m sr oc a18 a19 a21 a22 a23) (H : post 1 ()) :
    wpX_train (fun r => (nI m = 1 → wL_lawOf_175 post mc ms (nI a) (nI m) 100 (nI (2 * a + 1) + 2 * nI m) r kc ks jc 1 1 sr oc wa a1 a2 a3 a4 a5 a6 a7 a8 a9 a10 a11 a12 a13 a14 a15 a16 a17 a18 a19 a20 a21 a22 a23 a24 a25 a26) ∧ (¬ nI m = 1 → wL_lawOf_175 post mc ms (nI a) (nI m) 0 (nI (2 * a + 1) + 2 * nI m) r kc ks jc 1 1 sr oc wa a1 a2 a3 a4 a5 a6 a7 a8 a9 a10 a11 a12 a13 a14 a15 a16 a17 a18 a19 a20 a21 a22 a23 a24 a25 a26)) (jc, 1, 1, sr, oc, wa, a1, a2, a3, a4, a5, a6, a7, a8, a9, a10, a11, a12, a13, a14, a15, a16, a17, a18, a19, a20, a21, a22, a23, a24, a25, a26) 1 := by
  obtain ⟨r7, r8, r9, r9', r10, r10', r11, r12, r13⟩ := hR
  have e2 : nI a + 2 = nI (a + 2) := nI_add a 2
  rcases hD with ⟨_, ⟨rfl, rfl, rfl, h18, l1, l2, h21, h22⟩ | ⟨rfl, rfl, rfl, l1, l2, h21, h22, h23⟩ | ⟨rfl, rfl, rfl, l1, l2, h21, h22⟩⟩
  · refine ri_trainB (by omega) h21 h22 (br_f (by decide) (br_t (ri_u0 a ha) ?_))
    refine ri_lock0 (s := a + 1) (by omega) (nI_1 a) l1 (br_t rfl (br_t rfl ?_))
    refine ri_lock0 (s := a + 2) (by omega) e2 l2 (br_f (by decide) (br_t rfl ?_))
    exact ri_blk1 (br_f (by decide) (br_t rfl H))
  · refine ri_trainA (by omega) h21 h22 (br_t rfl (br_t (ri_u1 a ha) ?_))
    refine ri_lock0 (s := a + 1) (by omega) (nI_1 a) l1 (br_f (by decide) (br_t rfl (br_t rfl ?_)))
    refine ri_lock0 (s := a + 2) (by omega) e2 l2 (br_f (by decide) (br_t rfl ?_))
    exact ri_blk1 (br_f (by decide) (br_t rfl H))
  · refine ri_trainB (by omega) h21 h22 (br_f (by decide) (br_t (ri_u2 a ha) ?_))
    refine ri_lockN (s := a + 1) (by omega) (nI_1 a) l1 (br_f (by decide) (br_f (by decide) (br_t rfl ?_)))
    refine ri_lockN (s := a + 2) (by omega) e2 l2 (br_t rfl (br_t rfl ?_))
    exact ri_blk2 ha r11 (br_t rfl (br_t rfl H))
end
theorem ri_yard {a : Nat} (ha : a < 8) : ri_Y a (upd (upd (fun _ => 0) 0 (nI (2 * a + 1))) 1 (nI (2 * a + 3))) (upd (upd (fun _ => 0) 0 (nI (2 * a + 2))) 1 (nI (2 * a + 4))) (upd (upd (upd (upd (fun _ => 0) (2 * a + 1) 1) (2 * a + 2) 1) (2 * a + 3) 1) (2 * a + 4) 1) (upd (upd (upd (upd (fun _ => 0) (2 * (2 * a + 1)) (nI 0)) (2 * (2 * a + 2)) (nI 0)) (2 * (2 * a + 3)) (nI 1)) (2 * (2 * a + 4)) (nI 1)) (upd (fun _ => 0) (2 * a + 1) 1) :=
  ⟨⟨(pk_un (by omega)).trans pk_us, (pk_un (by omega)).trans pk_us, pk_us, pk_us⟩,
   ⟨(pk_un (by omega)).trans ((pk_un (by omega)).trans ((pk_un (by omega)).trans pk_us)), (pk_un (by omega)).trans ((pk_un (by omega)).trans pk_us), (pk_un (by omega)).trans pk_us, pk_us, (pk_un (by omega)).trans ((pk_un (by omega)).trans ((pk_un (by omega)).trans (pk_un (by omega))))⟩,
   ⟨(pk_un (by omega)).trans ((pk_un (by omega)).trans ((pk_un (by omega)).trans pk_us)), (pk_un (by omega)).trans pk_us⟩, pk_us, fun j _ hj => pk_un hj⟩
theorem ri_law40 {post : Int32 → St0 → Prop} {a c : Nat} {x : Int32} (ha : a < 8) (hc : ri_C x c) (H : post 1 ()) : wL_lawOf_40 post 170 2720 x (nI a) (nI (min c 2)) 0 0 := by
  unfold wL_lawOf_40
  rw [ri_e1 a, ri_e2 a, ri_e3 a, ri_e4 a]
  refine ⟨by omega, by omega, 26, 523, by omega, by omega, ?_⟩
  refine ri_init (fun b19 b21 b22 h19 h21 h22 => ?_)
  refine ri_joint (k := 0) (p := 2 * a + 1) (q := 2 * a + 2) (by omega) (by omega) (by omega) (by omega) rfl rfl (fun b6 => br_f (by decide) ?_)
  refine ri_joint (k := 1) (p := 2 * a + 3) (q := 2 * a + 4) (by omega) (by omega) (by omega) (by omega) ((pk_un (by omega)).trans (pk_un (by omega))) ((pk_un (by omega)).trans (pk_un (by omega))) (fun b6 => br_f (by decide) ?_)
  refine ri_signal (p := 2 * a + 1) (by omega) rfl (br_f (by decide) ?_)
  refine ri_put ha (h21 1 (by omega)) (h19 a (by omega)) (br_f (by decide) ?_)
  refine ri_set ha (ri_yard ha) h19 (fun b7 b8 b9 b10 b11 b12 b13 b14 b15 b16 hR => br_f (by decide) ?_)
  refine ri_tick ha (ri_yard ha) hR pk_us hc ⟨⟨(pk_un (by omega)).trans (h21 0 (by omega)), (pk_un (by omega)).trans (h21 2 (by omega))⟩, Or.inl ⟨rfl, rfl, rfl, pk_us, (pk_un (by omega)).trans pk_us, pk_us, pk_us, pk_us⟩⟩ (fun sr' oc' b18 b19' b21' b22' b23' hD => br_t rfl ?_)
  exact ri_end ha hR hD H
theorem ri_law29 {post : Int32 → St0 → Prop} {a c : Nat} {x : Int32} (ha : a < 8) (hc : ri_C x c) (H : post 1 ()) : wL_lawOf_29 post 170 2720 x (nI a) (nI c) 0 0 := by
  have T := ri_law40 ha hc H
  have hc1 : c ≤ 20 := hc.1
  refine pk_le 2 c (fun z => ?_) (fun z => ?_)
  · rw [show min c 2 = 2 by omega] at T
    exact T
  · rw [show min c 2 = c by omega] at T
    exact T
theorem ri_lawOf {post : Int32 → St0 → Prop} {p0 p1 : Int32} (H : post 1 ()) : wpL_lawOf post 170 2720 () p0 p1 := by
  obtain ⟨j, hj, ej⟩ := pk_andE p0 8 (m := 255) (by decide)
  unfold wpL_lawOf
  rw [ej]
  have ha : j % 8 < 8 := by omega
  refine ⟨by decide, nm_r (e' := nI (j % 8)) (pk_rem (d := 8) (by omega) (by omega) (by omega)) ?_⟩
  refine br_c (fun q1 => br_c (fun q2 => ?_) (fun q2 => ?_)) (fun q1 => ?_)
  · obtain ⟨c, hc, rfl⟩ := nI_of2 (n := 20) (M := 20) (by decide) (Int32.not_lt.mpr q1) q2
    exact ri_law29 ha ⟨hc, Or.inl ⟨q1, q2, rfl⟩⟩ H
  · exact ri_law29 (c := 20) ha ⟨by omega, Or.inr (Or.inl ⟨q1, q2, rfl⟩)⟩ H
  · exact ri_law29 (c := 0) ha ⟨by omega, Or.inr (Or.inr ⟨q1, rfl⟩)⟩ H
theorem i_vc (xs : Nat → Int32) (L : Nat) (hL : L ≤ 2) : wpL_law (fun r => r = 1) L xs := by
  have C : ∀ (post : Int32 → Prop) (p : Nat), p < 2 → (∀ x, post x) → wpL_cellAt post L xs () (nI p) := fun post p hp h => pk_le L p (fun _ => h _) (fun z => ⟨pk_in p L z, h _⟩)
  unfold wpL_law
  exact C _ 0 (by omega) (fun r1 => C _ 1 (by omega) (fun r2 => ⟨170, 2720, by omega, by omega, ri_lawOf rfl⟩))
end
