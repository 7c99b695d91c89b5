section
/-! plain facts on ints -/
theorem rj_b8 : ∀ n, n < 20 → (nI n).toInt8.toInt32 = nI n := by decide +kernel
theorem rj_x1 : ∀ n, n < 20 → nI n ^^^ 1 = nI (n ^^^ 1) := by decide +kernel
theorem rj_x2 : ∀ n, n < 20 → n ^^^ 1 < 20 ∧ (n ^^^ 1) / 2 = n / 2 ∧ n ^^^ 1 ≠ n := by decide +kernel
theorem rj_s0 : ∀ n, n < 20 → ((0 : Int32) >>> (nI n &&& 31)) &&& 1 = 0 := by decide +kernel
theorem rj_z8 : (0 : Int32).toInt8.toInt32 = 0 := by decide
theorem rj_o8 : ((0 : Int32) + 1).toInt8.toInt32 = 1 := by decide
theorem rj_nb : vp_nar .boolean 1 = 1 := by rfl
theorem rj_h {n : Nat} (h : n < 20) : nI n / 2 = nI (n / 2) := pk_div (d := 2) (by omega) (by omega) (by omega)
theorem rj_two (n : Nat) : 2 * nI n + 0 = nI (2 * n) := (Int32.add_zero _).trans (pk_mul 2 n)
theorem rj_two1 (n : Nat) : 2 * nI n + 1 - 1 = nI (2 * n) := by
  rw [show 2 * nI n = nI (2 * n) from pk_mul 2 n, nI_1, nI_pred]
theorem rj_a0 (x : Int32) : x &&& 0 = 0 := Int32.and_zero
theorem rj_ge10 {x : Int32} (h : nI 10 ≤ x) : ¬ x < 0 ∧ ¬ x ≤ 9 ∧ ¬ x < 10 := by
  rw [Int32.le_iff_toInt_le, nI_toInt (by omega)] at h
  refine ⟨fun z => ?_, fun z => ?_, fun z => ?_⟩
  · rw [Int32.lt_iff_toInt_lt, show (0 : Int32).toInt = 0 from rfl] at z
    omega
  · rw [Int32.le_iff_toInt_le, show (9 : Int32).toInt = 9 from rfl] at z
    omega
  · rw [Int32.lt_iff_toInt_lt, show (10 : Int32).toInt = 10 from rfl] at z
    omega
theorem rj_ge20 {x : Int32} (h : nI 20 ≤ x) : ¬ x < 0 ∧ 19 < x := by
  rw [Int32.le_iff_toInt_le, nI_toInt (by omega)] at h
  refine ⟨fun z => ?_, ?_⟩
  · rw [Int32.lt_iff_toInt_lt, show (0 : Int32).toInt = 0 from rfl] at z
    omega
  · rw [Int32.lt_iff_toInt_lt, show (19 : Int32).toInt = 19 from rfl]
    omega
theorem rj_fill {s : Nat → Int32} {i k : Nat} {x : Int32} (hk : k = i) (h : ∀ j, j < i → s j = x) : ∀ j, j < i + 1 → upd s k x j = x := by
  intro j hj
  rw [hk]
  by_cases e : j = i
  · rw [e, pk_us]
  · rw [pk_un e]
    exact h j (by omega)
theorem rj_dne {a b : Nat} (ha : a < 20) (hb : b < 20) (hne : a / 2 ≠ b / 2) : ¬ nI a / 2 = nI b / 2 := by
  rw [rj_h ha, rj_h hb, nI_eq (by omega) (by omega)]
  exact hne
end
section
/-! making, joint, signal -/
section
variable {jc fo rc sr oc wt : Int32} {a1 a2 a3 a4 a5 a6 a7 a8 a9 a10 a11 a12 a13 a14 a15 a16 a17 a18 a19 a20 a21 a22 a23 a24 a25 a26 : Nat → Int32}
theorem rj_i232 {post : St2 → Prop} {mc ms kc ks : Nat} (H : ∀ p q : Nat → Int32, post (jc, fo, rc, sr, oc, wt, a1, a2, a3, a4, a5, a6, a7, a8, a9, a10, a11, a12, a13, a14, a15, a16, a17, a18, a19, a20, p, q, a23, a24, a25, a26)) : ∃ n, wX_init_232 post mc ms kc ks jc fo rc sr oc wt n 0 a1 a2 a3 a4 a5 a6 a7 a8 a9 a10 a11 a12 a13 a14 a15 a16 a17 a18 a19 a20 a21 a22 a23 a24 a25 a26 :=
  pk_loop (σ := (Nat → Int32) × (Nat → Int32)) (fun n i s => wX_init_232 post mc ms kc ks jc fo rc sr oc wt n (nI i) a1 a2 a3 a4 a5 a6 a7 a8 a9 a10 a11 a12 a13 a14 a15 a16 a17 a18 a19 a20 s.1 s.2 a23 a24 a25 a26) (fun _ _ => True) 3 0 (a21, a22) (by omega) trivial
    (fun n s _ => pk_le 3 3 (fun _ => H s.1 s.2) (fun z => absurd z (by omega)))
    (fun n i s hi _ hw => pk_le 3 i (fun z => absurd z (by omega)) (fun _ => ⟨pk_in i 3 hi, nm_e ⟨pk_in i 3 hi, nm_e (nm_r (nI_1 i) (hw (_, _) trivial))⟩⟩))
theorem rj_i211 {post : St2 → Prop} {mc ms kc ks : Nat} (H : ∀ l p q : Nat → Int32, (∀ j, j < 10 → l j = -1) → post (jc, fo, rc, sr, oc, wt, a1, a2, a3, a4, a5, a6, a7, a8, a9, a10, a11, a12, a13, a14, a15, a16, a17, a18, l, a20, p, q, a23, a24, a25, a26)) : ∃ n, wX_init_211 post mc ms kc ks jc fo rc sr oc wt n 0 a1 a2 a3 a4 a5 a6 a7 a8 a9 a10 a11 a12 a13 a14 a15 a16 a17 a18 a19 a20 a21 a22 a23 a24 a25 a26 :=
  pk_loop (fun n i s => wX_init_211 post mc ms kc ks jc fo rc sr oc wt n (nI i) a1 a2 a3 a4 a5 a6 a7 a8 a9 a10 a11 a12 a13 a14 a15 a16 a17 a18 s a20 a21 a22 a23 a24 a25 a26) (fun i s => ∀ j, j < i → s j = -1) 10 0 a19 (by omega) (fun j hj => absurd hj (by omega))
    (fun n s h => pk_le 10 10 (fun _ => rj_i232 (fun p q => H s p q h)) (fun z => absurd z (by omega)))
    (fun n i s hi h hw => pk_le 10 i (fun z => absurd z (by omega)) (fun _ => ⟨pk_in i 10 hi, nm_e (nm_r (nI_1 i) (hw _ (rj_fill (nI_clamp (by omega)) h)))⟩))
theorem rj_init {post : St2 → Prop} {mc ms : Nat} (h1 : 26 ≤ mc) (h2 : 523 ≤ ms) (H : ∀ l p q : Nat → Int32, (∀ j, j < 10 → l j = -1) → post (0, 0, 0, 0, 0, 0, fun _ => 0, fun _ => 0, fun _ => 0, fun _ => 0, fun _ => 0, fun _ => 0, fun _ => 0, fun _ => 0, fun _ => 0, fun _ => 0, fun _ => 0, fun _ => 0, fun _ => 0, fun _ => 0, fun _ => 0, fun _ => 0, fun _ => 0, fun _ => 0, l, fun _ => 0, p, q, fun _ => 0, fun _ => 0, fun _ => 0, fun _ => 0)) : wpX_init post mc ms (0, 0, 0, 0, 0, 0) := by
  unfold wpX_init
  exact ⟨by omega, by omega, by omega, by omega, by omega, by omega, by omega, by omega, by omega, by omega, by omega, by omega, by omega, by omega, by omega, by omega, by omega, by omega, by omega, by omega, by omega, by omega, by omega, by omega, by omega, by omega, by omega, by omega, by omega, by omega, by omega, by omega, by omega, by omega, by omega, by omega, by omega, by omega, by omega, by omega, by omega, by omega, by omega, by omega, by omega, by omega, by omega, by omega, by omega, by omega, by omega, by omega, rj_i211 H⟩
theorem rj_isEnd1 {post : Int32 → Prop} {a : Nat} (ha : a < 20) (hp : post 1) : wpX_isEnd post (jc, fo, rc, sr, oc, wt, a1, a2, a3, a4, a5, a6, a7, a8, a9, a10, a11, a12, a13, a14, a15, a16, a17, a18, a19, a20, a21, a22, a23, a24, a25, a26) (nI a) :=
  pk_lt a 0 (fun z => absurd z (by omega)) (fun _ => pk_le 20 a (fun z => absurd z (by omega)) (fun _ => hp))
theorem rj_isEnd0 {post : Int32 → Prop} {p0 : Int32} (h : p0 < 0 ∨ nI 20 ≤ p0) (hp : post 0) : wpX_isEnd post (jc, fo, rc, sr, oc, wt, a1, a2, a3, a4, a5, a6, a7, a8, a9, a10, a11, a12, a13, a14, a15, a16, a17, a18, a19, a20, a21, a22, a23, a24, a25, a26) p0 :=
  br_c (fun _ => hp) (fun g => br_t (h.resolve_left g) hp)
theorem rj_quiet {post : Int32 → Prop} (hp : post 1) : wpX_isQuiet post (jc, fo, rc, 0, 0, wt, a1, a2, a3, a4, a5, a6, a7, a8, a9, a10, a11, a12, a13, a14, a15, a16, a17, a18, a19, a20, a21, a22, a23, a24, a25, a26) := br_t rfl (br_t rfl hp)
theorem rj_areJ {post : Int32 → Prop} {a : Nat} {p1 : Int32} (ha : a < 20) (h3 : a3 a = 0) (hp : post 0) : wpX_areJoined post (jc, fo, rc, sr, oc, wt, a1, a2, a3, a4, a5, a6, a7, a8, a9, a10, a11, a12, a13, a14, a15, a16, a17, a18, a19, a20, a21, a22, a23, a24, a25, a26) (nI a) p1 :=
  ⟨1, pk_in a 20 ha, br_t (by rw [nI_clamp (by omega), h3]; decide) hp⟩
theorem rj_hang {post : St2 → Prop} {a : Nat} (ha : a < 20) (h3 : a3 a = 0) (hp : post (jc, fo, rc, sr, oc, wt, a1, a2, upd a3 a 1, upd a4 (2 * a) 0, a5, a6, a7, a8, a9, a10, a11, a12, a13, a14, a15, a16, a17, a18, a19, a20, a21, a22, a23, a24, a25, a26)) : wpX_hang post (jc, fo, rc, sr, oc, wt, a1, a2, a3, a4, a5, a6, a7, a8, a9, a10, a11, a12, a13, a14, a15, a16, a17, a18, a19, a20, a21, a22, a23, a24, a25, a26) (nI a) 0 := by
  have e1 : (nI a).toNatClampNeg = a := nI_clamp (by omega)
  have e2 : 2 * nI a + a3 (nI a).toNatClampNeg = nI (2 * a) := by
    rw [e1, h3]
    exact rj_two a
  exact ⟨pk_in a 20 ha, pk_in (2 * a) 40 (by omega) e2, nm_r (e' := upd a4 (2 * a) 0) (by rw [e2, nI_clamp (by omega), rj_z8]) ⟨pk_in a 20 ha, pk_in a 20 ha, nm_r (e' := upd a3 a 1) (by rw [e1, h3, rj_o8]) hp⟩⟩
theorem rj_120 {post : Int32 → St2 → Prop} (H : ∀ p : Nat → Int32, post 1 (jc, 0, rc, sr, oc, wt, a1, a2, a3, a4, a5, p, a7, a8, a9, a10, a11, a12, a13, a14, a15, a16, a17, a18, a19, a20, a21, a22, a23, a24, a25, a26)) : ∃ n, wX_joint_120 post jc fo rc sr oc wt n 0 a1 a2 a3 a4 a5 a6 a7 a8 a9 a10 a11 a12 a13 a14 a15 a16 a17 a18 a19 a20 a21 a22 a23 a24 a25 a26 :=
  pk_loop (fun n i s => wX_joint_120 post jc fo rc sr oc wt n (nI i) a1 a2 a3 a4 a5 s a7 a8 a9 a10 a11 a12 a13 a14 a15 a16 a17 a18 a19 a20 a21 a22 a23 a24 a25 a26) (fun _ _ => True) 20 0 a6 (by omega) trivial
    (fun n s _ => pk_le 20 20 (fun _ => H s) (fun z => absurd z (by omega)))
    (fun n i s hi _ hw => pk_le 20 i (fun z => absurd z (by omega)) (fun _ => ⟨pk_in i 20 hi, nm_e (nm_r (nI_1 i) (hw _ trivial))⟩))
theorem rj_joint1 {post : Int32 → St2 → Prop} {a b : Nat} (ha : a < 20) (hb : b < 20) (hne : a / 2 ≠ b / 2) (h3 : ∀ i, a3 i = 0)
    (hp : ∀ p : Nat → Int32, post 1 (1, 0, rc, 0, 0, wt, upd a1 0 (nI a), upd a2 0 (nI b), upd (upd a3 a 1) b 1, upd (upd a4 (2 * a) 0) (2 * b) 0, a5, p, a7, a8, a9, a10, a11, a12, a13, a14, a15, a16, a17, a18, a19, a20, a21, a22, a23, a24, a25, a26)) :
    wpX_joint post (0, fo, rc, 0, 0, wt, a1, a2, a3, a4, a5, a6, a7, a8, a9, a10, a11, a12, a13, a14, a15, a16, a17, a18, a19, a20, a21, a22, a23, a24, a25, a26) (nI a) (nI b) := by
  have hab : b ≠ a := fun e => hne (by rw [e])
  exact br_f (by decide) (rj_isEnd1 ha (br_f (by decide) (rj_isEnd1 hb (br_f (by decide) ⟨by decide, by decide, br_f (rj_dne ha hb hne) (rj_quiet (br_f (by decide) ⟨pk_in a 20 ha, br_f (by rw [h3]; decide) ⟨pk_in b 20 hb, br_f (by rw [h3]; decide) (rj_areJ ha (h3 a) (br_t rfl (nm_r (e' := 1) (by decide) ⟨pk_in 0 12 (by omega), nm_r (e' := upd a1 0 (nI a)) (by rw [rj_b8 a ha, sb_cl0]) ⟨pk_in 0 12 (by omega), nm_r (e' := upd a2 0 (nI b)) (by rw [rj_b8 b hb, sb_cl0]) (rj_hang ha (h3 a) (rj_hang hb (by rw [pk_un hab]; exact h3 b) (rj_120 hp)))⟩⟩)))⟩⟩))⟩))))
theorem rj_joint0a {post : Int32 → St2 → Prop} {p0 p1 : Int32} (h : p0 < 0 ∨ nI 20 ≤ p0) (hp : post 0 (0, fo, rc, sr, oc, wt, a1, a2, a3, a4, a5, a6, a7, a8, a9, a10, a11, a12, a13, a14, a15, a16, a17, a18, a19, a20, a21, a22, a23, a24, a25, a26)) : wpX_joint post (0, fo, rc, sr, oc, wt, a1, a2, a3, a4, a5, a6, a7, a8, a9, a10, a11, a12, a13, a14, a15, a16, a17, a18, a19, a20, a21, a22, a23, a24, a25, a26) p0 p1 :=
  br_f (by decide) (rj_isEnd0 h (br_t rfl hp))
theorem rj_joint0b {post : Int32 → St2 → Prop} {a : Nat} {p1 : Int32} (ha : a < 20) (h : p1 < 0 ∨ nI 20 ≤ p1) (hp : post 0 (0, fo, rc, sr, oc, wt, a1, a2, a3, a4, a5, a6, a7, a8, a9, a10, a11, a12, a13, a14, a15, a16, a17, a18, a19, a20, a21, a22, a23, a24, a25, a26)) : wpX_joint post (0, fo, rc, sr, oc, wt, a1, a2, a3, a4, a5, a6, a7, a8, a9, a10, a11, a12, a13, a14, a15, a16, a17, a18, a19, a20, a21, a22, a23, a24, a25, a26) (nI a) p1 :=
  br_f (by decide) (rj_isEnd1 ha (br_f (by decide) (rj_isEnd0 h (br_t rfl hp))))
theorem rj_joint0c {post : Int32 → St2 → Prop} {a b : Nat} (ha : a < 20) (hb : b < 20) (h : nI a / 2 = nI b / 2) (hp : post 0 (0, fo, rc, sr, oc, wt, a1, a2, a3, a4, a5, a6, a7, a8, a9, a10, a11, a12, a13, a14, a15, a16, a17, a18, a19, a20, a21, a22, a23, a24, a25, a26)) : wpX_joint post (0, fo, rc, sr, oc, wt, a1, a2, a3, a4, a5, a6, a7, a8, a9, a10, a11, a12, a13, a14, a15, a16, a17, a18, a19, a20, a21, a22, a23, a24, a25, a26) (nI a) (nI b) :=
  br_f (by decide) (rj_isEnd1 ha (br_f (by decide) (rj_isEnd1 hb (br_f (by decide) ⟨by decide, by decide, br_t h hp⟩))))
theorem rj_sig1 {post : Int32 → St2 → Prop} {a : Nat} (ha : a < 20) (h5 : a5 a = 0) (hp : post 1 (jc, 0, rc, 0, 0, wt, a1, a2, a3, a4, upd a5 a 1, a6, a7, a8, a9, a10, a11, a12, a13, a14, a15, a16, a17, a18, a19, a20, a21, a22, a23, a24, a25, a26)) : wpX_signal post (jc, fo, rc, 0, 0, wt, a1, a2, a3, a4, a5, a6, a7, a8, a9, a10, a11, a12, a13, a14, a15, a16, a17, a18, a19, a20, a21, a22, a23, a24, a25, a26) (nI a) 1 := by
  unfold wpX_signal
  exact rj_isEnd1 ha (br_f (by decide) ⟨pk_in a 20 ha, br_f (by rw [nI_clamp (by omega), h5]; decide) (rj_quiet (br_f (by decide) ⟨pk_in a 20 ha, nm_r (e' := upd a5 a 1) (by rw [nI_clamp (by omega), rj_nb]) hp⟩))⟩)
theorem rj_sig0 {post : Int32 → St2 → Prop} {p0 : Int32} (h : p0 < 0 ∨ nI 20 ≤ p0) (hp : post 0 (jc, fo, rc, sr, oc, wt, a1, a2, a3, a4, a5, a6, a7, a8, a9, a10, a11, a12, a13, a14, a15, a16, a17, a18, a19, a20, a21, a22, a23, a24, a25, a26)) : wpX_signal post (jc, fo, rc, sr, oc, wt, a1, a2, a3, a4, a5, a6, a7, a8, a9, a10, a11, a12, a13, a14, a15, a16, a17, a18, a19, a20, a21, a22, a23, a24, a25, a26) p0 1 := by
  unfold wpX_signal
  exact rj_isEnd0 h (br_t rfl hp)
end
end
section
/-! finding routes -/
def rj_s11 (a11 : Nat → Int32) (b : Nat) : Nat → Int32 := upd (upd a11 0 0) 0 (((upd a11 0 0) 0 ||| ((1 : Int32) <<< ((nI b / 2) &&& 31))).toInt16.toInt32)
section
variable {jc fo rc sr oc wt : Int32} {a1 a2 a3 a4 a5 a6 a7 a8 a9 a10 a11 a12 a13 a14 a15 a16 a17 a18 a19 a20 a21 a22 a23 a24 a25 a26 : Nat → Int32}
theorem rj_acr {post : Int32 → Prop} {a b : Nat} (h1 : a1 0 = nI a) (h2 : a2 0 = nI b) (hp : post (nI b)) : wpX_across post (jc, fo, rc, sr, oc, wt, a1, a2, a3, a4, a5, a6, a7, a8, a9, a10, a11, a12, a13, a14, a15, a16, a17, a18, a19, a20, a21, a22, a23, a24, a25, a26) 0 (nI a) :=
  ⟨pk_in 0 12 (by omega), br_t (by rw [sb_cl0]; exact h1) ⟨pk_in 0 12 (by omega), by rw [sb_cl0, h2]; exact hp⟩⟩
theorem rj_vis {post : Int32 → Prop} {a b : Nat} (ha : a < 20) (hb : b < 20) (hne : a / 2 ≠ b / 2) (hp : post 0) : wpX_isVisited post (jc, fo, rc, sr, oc, wt, a1, a2, a3, a4, a5, a6, a7, a8, a9, a10, a11, a12, a13, a14, a15, a16, a17, a18, a19, a20, a21, a22, a23, a24, a25, a26) (nI a) 0 (nI b / 2) :=
  ⟨by decide, br_f (rj_dne ha hb hne) ⟨1, br_t (by decide) hp⟩⟩
theorem rj_need {post : St2 → Prop} {c : Nat} {r j : Int32} (hc : c < 20) (h3 : a3 c = 1) (hp : post (jc, fo, rc, sr, oc, wt, a1, a2, a3, a4, a5, a6, a7, a8, a9, a10, a11, a12, a13, a14, a15, a16, a17, a18, a19, a20, a21, a22, a23, a24, a25, a26)) : wpX_addNeed post (jc, fo, rc, sr, oc, wt, a1, a2, a3, a4, a5, a6, a7, a8, a9, a10, a11, a12, a13, a14, a15, a16, a17, a18, a19, a20, a21, a22, a23, a24, a25, a26) r (nI c) j :=
  ⟨pk_in c 20 hc, br_f (by rw [nI_clamp (by omega), h3]; decide) hp⟩
theorem rj_take {post : St2 → Prop} {a b : Nat} (ha : a < 20) (hb : b < 20) (h3a : a3 a = 1) (h3b : a3 b = 1) (h4 : a4 (2 * a) = 0) (h15 : a15 1 = nI b) (h16 : a16 0 = 1)
    (hp : post (jc, fo, 1, sr, oc, wt, a1, a2, a3, a4, a5, a6, upd a7 0 (nI a), upd a8 0 1, upd a9 0 0, upd a10 0 (nI b), rj_s11 a11 b, upd a12 0 0, upd a13 0 0, a14, a15, a16, a17, a18, a19, a20, a21, a22, a23, a24, a25, a26)) :
    wpX_takeRoute post (jc, fo, 0, sr, oc, wt, a1, a2, a3, a4, a5, a6, a7, a8, a9, a10, a11, a12, a13, a14, a15, a16, a17, a18, a19, a20, a21, a22, a23, a24, a25, a26) (nI a) 1 := by
  have e2 : 2 * nI a + a16 (0 : Int32).toNatClampNeg - 1 = nI (2 * a) := by
    rw [sb_cl0, h16]
    exact rj_two1 a
  have e3 : a4 (2 * nI a + a16 (0 : Int32).toNatClampNeg - 1).toNatClampNeg = 0 := by
    rw [e2, nI_clamp (by omega)]
    exact h4
  refine nm_r (e' := 1) (by decide) ⟨pk_in 0 16 (by omega), nm_r (e' := upd a7 0 (nI a)) (by rw [rj_b8 a ha, sb_cl0]) ⟨pk_in 0 16 (by omega), nm_r (e' := upd a8 0 1) rfl ⟨pk_in 0 16 (by omega), nm_r (e' := upd a11 0 0) rfl ⟨pk_in 0 16 (by omega), nm_r (e' := upd a12 0 0) rfl ⟨pk_in 0 16 (by omega), nm_r (e' := upd a13 0 0) rfl ⟨2, br_f (by decide) (br_t rfl ?_)⟩⟩⟩⟩⟩⟩
  exact ⟨pk_in 1 6 (by omega), nm_r (e' := nI b) h15 ⟨pk_in 0 6 (by omega), pk_in (2 * a) 40 (by omega) e2, nm_r (e' := 0) e3 ⟨pk_in 0 80 (by omega), nm_r (e' := upd a9 0 0) rfl ⟨pk_in 0 80 (by omega), nm_r (e' := upd a10 0 (nI b)) (by rw [rj_b8 b hb]; rfl) ⟨pk_in 0 16 (by omega), by decide, pk_in 0 16 (by omega), nm_r (e' := rj_s11 a11 b) rfl (rj_need ha h3a (rj_need hb h3b (nm_r (e' := 1) (by decide) (br_t (by decide) hp))))⟩⟩⟩⟩⟩
theorem rj_fol0 {post : St2 → Prop} {a : Nat} (ha : a < 20) (h3 : a3 a = 0) (hp : post (jc, fo, rc, sr, oc, wt, a1, a2, a3, a4, a5, a6, a7, a8, a9, a10, a11, a12, a13, a14, a15, upd a16 0 0, a17, a18, a19, a20, a21, a22, a23, a24, a25, a26)) : wpX_follow post (jc, fo, rc, sr, oc, wt, a1, a2, a3, a4, a5, a6, a7, a8, a9, a10, a11, a12, a13, a14, a15, a16, a17, a18, a19, a20, a21, a22, a23, a24, a25, a26) (nI a) := by
  have e1 : (nI a).toNatClampNeg = a := nI_clamp (by omega)
  exact nm_e ⟨2, br_f (by decide) (br_t rfl (br_f (by decide) ⟨pk_in 0 6 (by omega), pk_in a 20 ha, br_t (by rw [e1, h3, sb_cl0, pk_us]) (nm_e (br_t (by decide) hp))⟩))⟩
theorem rj_fol1 {post : St2 → Prop} {a b : Nat} (ha : a < 20) (hb : b < 20) (hne : a / 2 ≠ b / 2) (h1 : a1 0 = nI a) (h2 : a2 0 = nI b) (h3a : a3 a = 1) (h3b : a3 b = 1) (h3c : a3 (b ^^^ 1) = 0) (h4 : a4 (2 * a) = 0) (h5 : a5 (b ^^^ 1) = 0)
    (hp : post (jc, fo, 1, sr, oc, wt, a1, a2, a3, a4, a5, a6, upd a7 0 (nI a), upd a8 0 1, upd a9 0 0, upd a10 0 (nI b), rj_s11 a11 b, upd a12 0 0, upd a13 0 0, a14, upd a15 1 (nI b), upd (upd a16 0 0) 0 1, a17, a18, a19, a20, a21, a22, a23, a24, a25, a26)) :
    wpX_follow post (jc, fo, 0, sr, oc, wt, a1, a2, a3, a4, a5, a6, a7, a8, a9, a10, a11, a12, a13, a14, a15, a16, a17, a18, a19, a20, a21, a22, a23, a24, a25, a26) (nI a) := by
  have e1 : (nI a).toNatClampNeg = a := nI_clamp (by omega)
  have e0 : upd a16 0 0 (0 : Int32).toNatClampNeg = 0 := by rw [sb_cl0, pk_us]
  have e2 : 2 * nI a + upd a16 0 0 (0 : Int32).toNatClampNeg = nI (2 * a) := by
    rw [e0]
    exact rj_two a
  have e3 : a4 (2 * nI a + upd a16 0 0 (0 : Int32).toNatClampNeg).toNatClampNeg = 0 := by
    rw [e2, nI_clamp (by omega)]
    exact h4
  have x1 : nI b ^^^ 1 = nI (b ^^^ 1) := rj_x1 b hb
  have x2 : b ^^^ 1 < 20 := (rj_x2 b hb).1
  have x3 : (nI b ^^^ 1).toNatClampNeg = b ^^^ 1 := by
    rw [x1]
    exact nI_clamp (by omega)
  refine nm_e ⟨3, br_f (by decide) (br_t rfl (br_f (by decide) ⟨pk_in 0 6 (by omega), pk_in a 20 ha, br_f (by rw [e0, e1, h3a]; decide) ⟨pk_in 0 6 (by omega), pk_in (2 * a) 40 (by omega) e2, nm_r (e' := 0) e3 ⟨pk_in 0 6 (by omega), pk_in 0 6 (by omega), nm_r (e' := upd (upd a16 0 0) 0 1) (by rw [e0, rj_o8, sb_cl0]) (rj_acr h1 h2 ⟨by decide, rj_vis ha hb hne (br_t rfl (nm_r (e' := 1) (by decide) ⟨pk_in 1 6 (by omega), nm_r (e' := upd a15 1 (nI b)) (by rw [rj_b8 b hb]; rfl) ⟨pk_in (b ^^^ 1) 20 x2 x1, br_t (by rw [x3]; exact h5) ⟨pk_in (b ^^^ 1) 20 x2 x1, br_t (by rw [x3]; exact h3c) (br_f (by decide) (rj_take ha hb h3a h3b h4 pk_us pk_us (nm_r (e' := 0) (by decide) ?_)))⟩⟩⟩))⟩)⟩⟩⟩))⟩
  exact br_f (by decide) (br_t rfl (br_f (by decide) ⟨pk_in 0 6 (by omega), pk_in a 20 ha, br_t (by rw [e1, h3a, sb_cl0, pk_us]) (nm_e (br_t (by decide) hp))⟩))
theorem rj_conf {post : Int32 → Prop} (hp : post 1) : wpX_areInConflict post (jc, fo, rc, sr, oc, wt, a1, a2, a3, a4, a5, a6, a7, a8, a9, a10, a11, a12, a13, a14, a15, a16, a17, a18, a19, a20, a21, a22, a23, a24, a25, a26) 0 0 := ⟨pk_in 0 16 (by omega), pk_in 0 16 (by omega), nm_e (br_t rfl hp)⟩
theorem rj_48z {post : St2 → Prop} (hp : post (jc, fo, 0, sr, oc, wt, a1, a2, a3, a4, a5, a6, a7, a8, a9, a10, a11, a12, a13, a14, a15, a16, a17, a18, a19, a20, a21, a22, a23, a24, a25, a26)) : ∃ n, wX_findRoutes_48 post jc fo 0 sr oc wt n 0 a1 a2 a3 a4 a5 a6 a7 a8 a9 a10 a11 a12 a13 a14 a15 a16 a17 a18 a19 a20 a21 a22 a23 a24 a25 a26 := ⟨1, br_t (by decide) hp⟩
theorem rj_48o {post : St2 → Prop} (hp : ∀ p : Nat → Int32, post (jc, fo, 1, sr, oc, wt, a1, a2, a3, a4, a5, a6, a7, a8, a9, a10, a11, a12, a13, p, a15, a16, a17, a18, a19, a20, a21, a22, a23, a24, a25, a26)) : ∃ n, wX_findRoutes_48 post jc fo 1 sr oc wt n 0 a1 a2 a3 a4 a5 a6 a7 a8 a9 a10 a11 a12 a13 a14 a15 a16 a17 a18 a19 a20 a21 a22 a23 a24 a25 a26 :=
  ⟨2, br_f (by decide) ⟨pk_in 0 16 (by omega), nm_e ⟨2, br_f (by decide) (rj_conf (br_f (by decide) ⟨pk_in 0 16 (by omega), pk_in 0 16 (by omega), nm_e (nm_r (e' := 1) (by decide) (br_t (by decide) (nm_r (e' := 1) (by decide) (br_t (by decide) (hp _)))))⟩))⟩⟩⟩
theorem rj_20s {post : St2 → Prop} (k : Nat) : ∀ i, i + k ≤ 20 → (∀ j, i ≤ j → j < i + k → a5 j = 0) → (∃ n, wX_findRoutes_20 post n (nI (i + k)) jc fo rc sr oc wt a1 a2 a3 a4 a5 a6 a7 a8 a9 a10 a11 a12 a13 a14 a15 a16 a17 a18 a19 a20 a21 a22 a23 a24 a25 a26) → ∃ n, wX_findRoutes_20 post n (nI i) jc fo rc sr oc wt a1 a2 a3 a4 a5 a6 a7 a8 a9 a10 a11 a12 a13 a14 a15 a16 a17 a18 a19 a20 a21 a22 a23 a24 a25 a26 := by
  induction k with
  | zero => exact fun i _ _ h => h
  | succ k ih =>
    intro i hk h5 h
    rw [show i + (k + 1) = i + 1 + k by omega] at h
    obtain ⟨n, hn⟩ := ih (i + 1) (by omega) (fun j g1 g2 => h5 j (by omega) (by omega)) h
    exact ⟨n + 1, pk_le 20 i (fun z => absurd z (by omega)) (fun _ => ⟨pk_in i 20 (by omega), br_t (by rw [nI_clamp (by omega)]; exact h5 i (by omega) (by omega)) (nm_r (nI_1 i) hn)⟩)⟩
theorem rj_20e {post : St2 → Prop} (h : ∃ n, wX_findRoutes_48 post jc fo rc sr oc wt n 0 a1 a2 a3 a4 a5 a6 a7 a8 a9 a10 a11 a12 a13 a14 a15 a16 a17 a18 a19 a20 a21 a22 a23 a24 a25 a26) : ∃ n, wX_findRoutes_20 post n (nI 20) jc fo rc sr oc wt a1 a2 a3 a4 a5 a6 a7 a8 a9 a10 a11 a12 a13 a14 a15 a16 a17 a18 a19 a20 a21 a22 a23 a24 a25 a26 := ⟨1, br_t (by decide) h⟩
theorem rj_20 {post : St2 → Prop} {rb : Int32} {b7 b8 b9 b10 b11 b12 b13 b15 b16 : Nat → Int32} {a : Nat} (ha : a < 20) (h5 : ∀ j, j ≠ a → a5 j = 0) (h5a : ¬ a5 a = 0)
    (hf : ∀ ψ : St2 → Prop, ψ (jc, fo, rb, sr, oc, wt, a1, a2, a3, a4, a5, a6, b7, b8, b9, b10, b11, b12, b13, a14, b15, b16, a17, a18, a19, a20, a21, a22, a23, a24, a25, a26) → wpX_follow ψ (jc, fo, rc, sr, oc, wt, a1, a2, a3, a4, a5, a6, a7, a8, a9, a10, a11, a12, a13, a14, a15, a16, a17, a18, a19, a20, a21, a22, a23, a24, a25, a26) (nI a))
    (h : ∃ n, wX_findRoutes_48 post jc fo rb sr oc wt n 0 a1 a2 a3 a4 a5 a6 b7 b8 b9 b10 b11 b12 b13 a14 b15 b16 a17 a18 a19 a20 a21 a22 a23 a24 a25 a26) :
    ∃ n, wX_findRoutes_20 post n 0 jc fo rc sr oc wt a1 a2 a3 a4 a5 a6 a7 a8 a9 a10 a11 a12 a13 a14 a15 a16 a17 a18 a19 a20 a21 a22 a23 a24 a25 a26 := by
  obtain ⟨m, hm⟩ := rj_20s (19 - a) (a + 1) (by omega) (fun j g1 _ => h5 j (by omega)) (by rw [show a + 1 + (19 - a) = 20 by omega]; exact rj_20e h)
  refine rj_20s a 0 (by omega) (fun j _ g2 => h5 j (by omega)) ?_
  rw [Nat.zero_add]
  exact ⟨m + 1, pk_le 20 a (fun z => absurd z (by omega)) (fun _ => ⟨pk_in a 20 ha, br_f (by rw [nI_clamp (by omega)]; exact h5a) (hf _ (nm_r (nI_1 a) hm))⟩)⟩
theorem rj_frN {post : St2 → Prop} (h5 : ∀ j, a5 j = 0) (hp : ∀ p : Nat → Int32, post (jc, 1, 0, sr, oc, wt, a1, a2, a3, a4, a5, a6, a7, a8, a9, a10, a11, a12, a13, a14, a15, p, a17, a18, a19, a20, a21, a22, a23, a24, a25, a26)) : wpX_findRoutes post (jc, 0, rc, sr, oc, wt, a1, a2, a3, a4, a5, a6, a7, a8, a9, a10, a11, a12, a13, a14, a15, a16, a17, a18, a19, a20, a21, a22, a23, a24, a25, a26) :=
  br_t rfl (rj_20s 20 0 (by omega) (fun j _ _ => h5 j) (rj_20e (rj_48z (hp _))))
theorem rj_frZ {post : St2 → Prop} {a : Nat} (ha : a < 20) (h5 : ∀ j, j ≠ a → a5 j = 0) (h5a : ¬ a5 a = 0) (h3 : a3 a = 0) (hp : ∀ p : Nat → Int32, post (jc, 1, 0, sr, oc, wt, a1, a2, a3, a4, a5, a6, a7, a8, a9, a10, a11, a12, a13, a14, a15, p, a17, a18, a19, a20, a21, a22, a23, a24, a25, a26)) : wpX_findRoutes post (jc, 0, rc, sr, oc, wt, a1, a2, a3, a4, a5, a6, a7, a8, a9, a10, a11, a12, a13, a14, a15, a16, a17, a18, a19, a20, a21, a22, a23, a24, a25, a26) :=
  br_t rfl (rj_20 ha h5 h5a (fun _ hq => rj_fol0 ha h3 hq) (rj_48z (hp _)))
theorem rj_frO {post : St2 → Prop} {a b : Nat} (ha : a < 20) (hb : b < 20) (hne : a / 2 ≠ b / 2) (h1 : a1 0 = nI a) (h2 : a2 0 = nI b) (h3a : a3 a = 1) (h3b : a3 b = 1) (h3c : a3 (b ^^^ 1) = 0) (h4 : a4 (2 * a) = 0) (h5 : ∀ j, j ≠ a → a5 j = 0) (h5a : ¬ a5 a = 0) (h5b : b ^^^ 1 ≠ a)
    (hp : ∀ b7 b11 b13 b14 b15 b16 : Nat → Int32, post (jc, 1, 1, sr, oc, wt, a1, a2, a3, a4, a5, a6, b7, upd a8 0 1, upd a9 0 0, upd a10 0 (nI b), b11, upd a12 0 0, b13, b14, b15, b16, a17, a18, a19, a20, a21, a22, a23, a24, a25, a26)) : wpX_findRoutes post (jc, 0, rc, sr, oc, wt, a1, a2, a3, a4, a5, a6, a7, a8, a9, a10, a11, a12, a13, a14, a15, a16, a17, a18, a19, a20, a21, a22, a23, a24, a25, a26) :=
  br_t rfl (rj_20 ha h5 h5a (fun _ hq => rj_fol1 ha hb hne h1 h2 h3a h3b h3c h4 (h5 _ h5b) hq) (rj_48o (fun p => hp _ _ _ p _ _)))
theorem rj_frF {post : St2 → Prop} (hp : post (jc, 1, rc, sr, oc, wt, a1, a2, a3, a4, a5, a6, a7, a8, a9, a10, a11, a12, a13, a14, a15, a16, a17, a18, a19, a20, a21, a22, a23, a24, a25, a26)) : wpX_findRoutes post (jc, 1, rc, sr, oc, wt, a1, a2, a3, a4, a5, a6, a7, a8, a9, a10, a11, a12, a13, a14, a15, a16, a17, a18, a19, a20, a21, a22, a23, a24, a25, a26) := br_f (by decide) hp
theorem rj_rtN {post : Int32 → St2 → Prop} (h5 : ∀ j, a5 j = 0) (hp : ∀ p : Nat → Int32, post 0 (jc, 1, 0, sr, oc, wt, a1, a2, a3, a4, a5, a6, a7, a8, a9, a10, a11, a12, a13, a14, a15, p, a17, a18, a19, a20, a21, a22, a23, a24, a25, a26)) : wpX_routes post (jc, 0, rc, sr, oc, wt, a1, a2, a3, a4, a5, a6, a7, a8, a9, a10, a11, a12, a13, a14, a15, a16, a17, a18, a19, a20, a21, a22, a23, a24, a25, a26) := by
  unfold wpX_routes
  exact rj_frN h5 hp
theorem rj_rtZ {post : Int32 → St2 → Prop} {a : Nat} (ha : a < 20) (h5 : ∀ j, j ≠ a → a5 j = 0) (h5a : ¬ a5 a = 0) (h3 : a3 a = 0) (hp : ∀ p : Nat → Int32, post 0 (jc, 1, 0, sr, oc, wt, a1, a2, a3, a4, a5, a6, a7, a8, a9, a10, a11, a12, a13, a14, a15, p, a17, a18, a19, a20, a21, a22, a23, a24, a25, a26)) : wpX_routes post (jc, 0, rc, sr, oc, wt, a1, a2, a3, a4, a5, a6, a7, a8, a9, a10, a11, a12, a13, a14, a15, a16, a17, a18, a19, a20, a21, a22, a23, a24, a25, a26) := by
  unfold wpX_routes
  exact rj_frZ ha h5 h5a h3 hp
theorem rj_rtO {post : Int32 → St2 → Prop} {a b : Nat} (ha : a < 20) (hb : b < 20) (hne : a / 2 ≠ b / 2) (h1 : a1 0 = nI a) (h2 : a2 0 = nI b) (h3a : a3 a = 1) (h3b : a3 b = 1) (h3c : a3 (b ^^^ 1) = 0) (h4 : a4 (2 * a) = 0) (h5 : ∀ j, j ≠ a → a5 j = 0) (h5a : ¬ a5 a = 0) (h5b : b ^^^ 1 ≠ a)
    (hp : ∀ b7 b11 b13 b14 b15 b16 : Nat → Int32, post 1 (jc, 1, 1, sr, oc, wt, a1, a2, a3, a4, a5, a6, b7, upd a8 0 1, upd a9 0 0, upd a10 0 (nI b), b11, upd a12 0 0, b13, b14, b15, b16, a17, a18, a19, a20, a21, a22, a23, a24, a25, a26)) : wpX_routes post (jc, 0, rc, sr, oc, wt, a1, a2, a3, a4, a5, a6, a7, a8, a9, a10, a11, a12, a13, a14, a15, a16, a17, a18, a19, a20, a21, a22, a23, a24, a25, a26) := by
  unfold wpX_routes
  exact rj_frO ha hb hne h1 h2 h3a h3b h3c h4 h5 h5a h5b hp
end
end
section
/-! setting, lock, blocked -/
section
variable {jc fo rc sr oc wt : Int32} {a1 a2 a3 a4 a5 a6 a7 a8 a9 a10 a11 a12 a13 a14 a15 a16 a17 a18 a19 a20 a21 a22 a23 a24 a25 a26 : Nat → Int32}
theorem rj_isR0 {post : Int32 → St2 → Prop} (hp : post 0 (jc, 1, 0, sr, oc, wt, a1, a2, a3, a4, a5, a6, a7, a8, a9, a10, a11, a12, a13, a14, a15, a16, a17, a18, a19, a20, a21, a22, a23, a24, a25, a26)) : wpX_isRoute post (jc, 1, 0, sr, oc, wt, a1, a2, a3, a4, a5, a6, a7, a8, a9, a10, a11, a12, a13, a14, a15, a16, a17, a18, a19, a20, a21, a22, a23, a24, a25, a26) 0 := by
  unfold wpX_isRoute
  exact rj_frF (br_f (by decide) (br_t (by decide) hp))
theorem rj_isR1 {post : Int32 → St2 → Prop} (hp : post 1 (jc, 1, 1, sr, oc, wt, a1, a2, a3, a4, a5, a6, a7, a8, a9, a10, a11, a12, a13, a14, a15, a16, a17, a18, a19, a20, a21, a22, a23, a24, a25, a26)) : wpX_isRoute post (jc, 1, 1, sr, oc, wt, a1, a2, a3, a4, a5, a6, a7, a8, a9, a10, a11, a12, a13, a14, a15, a16, a17, a18, a19, a20, a21, a22, a23, a24, a25, a26) 0 := by
  unfold wpX_isRoute
  exact rj_frF (br_f (by decide) (br_f (by decide) hp))
theorem rj_isS0 {post : Int32 → Prop} (hp : post 0) : wpX_isSet post (jc, fo, rc, 0, oc, wt, a1, a2, a3, a4, a5, a6, a7, a8, a9, a10, a11, a12, a13, a14, a15, a16, a17, a18, a19, a20, a21, a22, a23, a24, a25, a26) 0 := br_t (by decide) hp
theorem rj_isS1 {post : Int32 → Prop} (hp : post 1) : wpX_isSet post (jc, fo, rc, 1, oc, wt, a1, a2, a3, a4, a5, a6, a7, a8, a9, a10, a11, a12, a13, a14, a15, a16, a17, a18, a19, a20, a21, a22, a23, a24, a25, a26) 0 := br_f (by decide) hp
theorem rj_must {post : Int32 → Prop} {i : Nat} (hi : i < 20) (h12 : a12 0 = 0) (hp : post 0) : wpX_mustTurn post (jc, fo, rc, sr, oc, wt, a1, a2, a3, a4, a5, a6, a7, a8, a9, a10, a11, a12, a13, a14, a15, a16, a17, a18, a19, a20, a21, a22, a23, a24, a25, a26) 0 (nI i) :=
  ⟨pk_in 0 16 (by omega), br_t (by rw [sb_cl0, h12]; exact rj_s0 i hi) hp⟩
theorem rj_lkS {post : Int32 → Prop} (h19 : ∀ j, j < 10 → a19 j = -1) (hp : post 0) : wpX_lockedSections post (jc, fo, rc, sr, oc, wt, a1, a2, a3, a4, a5, a6, a7, a8, a9, a10, a11, a12, a13, a14, a15, a16, a17, a18, a19, a20, a21, a22, a23, a24, a25, a26) :=
  pk_loop (σ := Unit) (fun n i _ => wX_lockedSections_4 post jc fo rc sr oc wt a1 a2 a3 a4 a5 a6 a7 a8 a9 a10 a11 a12 a13 a14 a15 a16 a17 a18 a19 a20 a21 a22 a23 a24 a25 a26 n 0 (nI i)) (fun _ _ => True) 10 0 () (by omega) trivial
    (fun n _ _ => pk_le 10 10 (fun _ => hp) (fun z => absurd z (by omega)))
    (fun n i _ hi _ hw => pk_le 10 i (fun z => absurd z (by omega)) (fun _ => ⟨pk_in i 10 hi, br_t (by rw [nI_clamp (by omega), h19 i hi]; decide) (nm_r (nI_1 i) (hw () trivial))⟩))
theorem rj_w44 {post : Int32 → Prop} (h12 : a12 0 = 0) (hp : post 0) : ∃ n, wX_whyNot_44 post 0 jc fo rc sr oc wt a1 a2 a3 a4 a5 a6 a7 a8 a9 a10 a11 a12 a13 a14 a15 a16 a17 a18 a19 a20 a21 a22 a23 a24 a25 a26 n 0 :=
  pk_loop (σ := Unit) (fun n i _ => wX_whyNot_44 post 0 jc fo rc sr oc wt a1 a2 a3 a4 a5 a6 a7 a8 a9 a10 a11 a12 a13 a14 a15 a16 a17 a18 a19 a20 a21 a22 a23 a24 a25 a26 n (nI i)) (fun _ _ => True) 20 0 () (by omega) trivial
    (fun n _ _ => pk_le 20 20 (fun _ => hp) (fun z => absurd z (by omega)))
    (fun n i _ hi _ hw => pk_le 20 i (fun z => absurd z (by omega)) (fun _ => rj_must hi h12 (br_t rfl (nm_r (nI_1 i) (hw () trivial)))))
theorem rj_why0 {post : Int32 → Prop} (h12 : a12 0 = 0) (h19 : ∀ j, j < 10 → a19 j = -1) (hp : post 0) : wpX_whyNot post (jc, fo, rc, 0, 0, wt, a1, a2, a3, a4, a5, a6, a7, a8, a9, a10, a11, a12, a13, a14, a15, a16, a17, a18, a19, a20, a21, a22, a23, a24, a25, a26) 0 := by
  unfold wpX_whyNot
  exact rj_isS0 (br_t rfl ⟨pk_in 0 16 (by omega), br_t (rj_a0 _) ⟨pk_in 0 16 (by omega), rj_lkS h19 (br_t (rj_a0 _) (rj_w44 h12 hp))⟩⟩)
theorem rj_why1 {post : Int32 → Prop} (hp : post 1) : wpX_whyNot post (jc, fo, rc, 1, oc, wt, a1, a2, a3, a4, a5, a6, a7, a8, a9, a10, a11, a12, a13, a14, a15, a16, a17, a18, a19, a20, a21, a22, a23, a24, a25, a26) 0 := by
  unfold wpX_whyNot
  exact rj_isS1 (br_f (by decide) hp)
theorem rj_cn {post : St2 → Prop} {a b : Nat} {j m : Int32} (hj : j = 0) (ha : a < 20) (hb : b < 20) (h1 : a1 0 = nI a) (h2 : a2 0 = nI b) (h3a : a3 a = 1) (h3b : a3 b = 1) (hp : post (jc, fo, rc, sr, oc, wt, a1, a2, a3, a4, a5, a6, a7, a8, a9, a10, a11, a12, a13, a14, a15, a16, a17, a18, a19, a20, a21, a22, a23, a24, a25, a26)) : wpX_countNeeds post (jc, fo, rc, sr, oc, wt, a1, a2, a3, a4, a5, a6, a7, a8, a9, a10, a11, a12, a13, a14, a15, a16, a17, a18, a19, a20, a21, a22, a23, a24, a25, a26) j m := by
  subst hj
  exact ⟨pk_in 0 12 (by omega), pk_in a 20 ha h1, br_f (by rw [sb_cl0, h1, nI_clamp (by omega), h3a]; decide) ⟨pk_in 0 12 (by omega), pk_in b 20 hb h2, br_f (by rw [sb_cl0, h2, nI_clamp (by omega), h3b]; decide) hp⟩⟩
theorem rj_s80 {post : Int32 → St2 → Prop} {a b : Nat} (ha : a < 20) (hb : b < 20) (h1 : a1 0 = nI a) (h2 : a2 0 = nI b) (h3a : a3 a = 1) (h3b : a3 b = 1) (h8 : a8 0 = 1) (h9 : a9 0 = 0) (h10 : a10 0 = nI b) (hp : post 1 (jc, fo, rc, sr, oc, wt, a1, a2, a3, a4, a5, a6, a7, a8, a9, a10, a11, a12, a13, a14, a15, a16, a17, a18, upd a19 (b / 2) 0, a20, a21, a22, a23, a24, a25, a26)) : ∃ n, wX_set_80 post 0 n 0 jc fo rc sr oc wt a1 a2 a3 a4 a5 a6 a7 a8 a9 a10 a11 a12 a13 a14 a15 a16 a17 a18 a19 a20 a21 a22 a23 a24 a25 a26 := by
  have e0 : ((5 : Int32) * 0 + 0).toNatClampNeg = 0 := by decide
  have e2 : a10 ((5 : Int32) * 0 + 0).toNatClampNeg / 2 = nI (b / 2) := by
    rw [e0, h10]
    exact rj_h hb
  exact ⟨2, pk_in 0 16 (by omega), br_f (by rw [sb_cl0, h8]; decide) ⟨pk_in 0 80 (by omega), by decide, pk_in (b / 2) 10 (by omega) e2, nm_r (e' := upd a19 (b / 2) 0) (by rw [e2, nI_clamp (by omega), rj_z8]) ⟨pk_in 0 80 (by omega), rj_cn (by rw [e0]; exact h9) ha hb h1 h2 h3a h3b (nm_r (e' := 1) (by decide) ⟨pk_in 0 16 (by omega), br_t (by rw [sb_cl0, h8]; decide) hp⟩)⟩⟩⟩
theorem rj_s46 {post : Int32 → St2 → Prop} (h12 : a12 0 = 0) (H : ∃ n, wX_set_80 post 0 n 0 jc fo rc sr oc wt a1 a2 a3 a4 a5 a6 a7 a8 a9 a10 a11 a12 a13 a14 a15 a16 a17 a18 a19 a20 a21 a22 a23 a24 a25 a26) : ∃ n, wX_set_46 post 0 jc fo rc sr oc wt n 0 a1 a2 a3 a4 a5 a6 a7 a8 a9 a10 a11 a12 a13 a14 a15 a16 a17 a18 a19 a20 a21 a22 a23 a24 a25 a26 :=
  pk_loop (σ := Unit) (fun n i _ => wX_set_46 post 0 jc fo rc sr oc wt n (nI i) a1 a2 a3 a4 a5 a6 a7 a8 a9 a10 a11 a12 a13 a14 a15 a16 a17 a18 a19 a20 a21 a22 a23 a24 a25 a26) (fun _ _ => True) 20 0 () (by omega) trivial
    (fun n _ _ => pk_le 20 20 (fun _ => H) (fun z => absurd z (by omega)))
    (fun n i _ hi _ hw => pk_le 20 i (fun z => absurd z (by omega)) (fun _ => rj_must hi h12 (br_t rfl (nm_r (nI_1 i) (hw () trivial)))))
theorem rj_set0 {post : Int32 → St2 → Prop} (hp : post 0 (jc, 1, 0, sr, oc, wt, a1, a2, a3, a4, a5, a6, a7, a8, a9, a10, a11, a12, a13, a14, a15, a16, a17, a18, a19, a20, a21, a22, a23, a24, a25, a26)) : wpX_set post (jc, 1, 0, sr, oc, wt, a1, a2, a3, a4, a5, a6, a7, a8, a9, a10, a11, a12, a13, a14, a15, a16, a17, a18, a19, a20, a21, a22, a23, a24, a25, a26) 0 := by
  unfold wpX_set
  exact rj_isR0 (br_t rfl hp)
theorem rj_set1 {post : Int32 → St2 → Prop} {a b : Nat} (ha : a < 20) (hb : b < 20) (h1 : a1 0 = nI a) (h2 : a2 0 = nI b) (h3a : a3 a = 1) (h3b : a3 b = 1) (h8 : a8 0 = 1) (h9 : a9 0 = 0) (h10 : a10 0 = nI b) (h12 : a12 0 = 0) (h19 : ∀ j, j < 10 → a19 j = -1)
    (hp : ∀ p q : Nat → Int32, post 1 (jc, 1, 1, 1, 0, wt, a1, a2, a3, a4, a5, a6, a7, a8, a9, a10, a11, a12, a13, a14, a15, a16, p, q, upd a19 (b / 2) 0, a20, a21, a22, a23, a24, a25, a26)) : wpX_set post (jc, 1, 1, 0, 0, wt, a1, a2, a3, a4, a5, a6, a7, a8, a9, a10, a11, a12, a13, a14, a15, a16, a17, a18, a19, a20, a21, a22, a23, a24, a25, a26) 0 := by
  unfold wpX_set
  exact rj_isR1 (br_f (by decide) (rj_why0 h12 h19 (br_t rfl (nm_r (e' := 1) (by decide) ⟨pk_in 0 16 (by omega), nm_e ⟨pk_in 0 16 (by omega), nm_e (rj_s46 h12 (rj_s80 ha hb h1 h2 h3a h3b h8 h9 h10 (hp _ _)))⟩⟩))))
theorem rj_lkB {post : Int32 → Prop} {p0 : Int32} (h : p0 < 0 ∨ nI 10 ≤ p0) (hp : post (-1)) : wpX_lock post (jc, fo, rc, sr, oc, wt, a1, a2, a3, a4, a5, a6, a7, a8, a9, a10, a11, a12, a13, a14, a15, a16, a17, a18, a19, a20, a21, a22, a23, a24, a25, a26) p0 :=
  br_c (fun _ => hp) (fun g => br_f (rj_ge10 (h.resolve_left g)).2.2 hp)
theorem rj_lkN {post : Int32 → Prop} {s : Nat} (hs : s < 10) (h : a19 s = -1) (hp : post (-2)) : wpX_lock post (jc, fo, rc, sr, oc, wt, a1, a2, a3, a4, a5, a6, a7, a8, a9, a10, a11, a12, a13, a14, a15, a16, a17, a18, a19, a20, a21, a22, a23, a24, a25, a26) (nI s) :=
  pk_lt s 0 (fun z => absurd z (by omega)) (fun _ => pk_lt s 10 (fun _ => ⟨pk_in s 10 hs, br_f (by rw [nI_clamp (by omega), h]; decide) hp⟩) (fun z => absurd z (by omega)))
theorem rj_lk0 {post : Int32 → Prop} {s : Nat} (hs : s < 10) (h : a19 s = 0) (hp : post 0) : wpX_lock post (jc, fo, rc, sr, oc, wt, a1, a2, a3, a4, a5, a6, a7, a8, a9, a10, a11, a12, a13, a14, a15, a16, a17, a18, a19, a20, a21, a22, a23, a24, a25, a26) (nI s) :=
  pk_lt s 0 (fun z => absurd z (by omega)) (fun _ => pk_lt s 10 (fun _ => ⟨pk_in s 10 hs, br_t (by rw [nI_clamp (by omega), h]; decide) ⟨pk_in s 10 hs, by rw [nI_clamp (by omega), h]; exact hp⟩⟩) (fun z => absurd z (by omega)))
theorem rj_bl0 {post : Int32 → St2 → Prop} (hp : post (-1) (jc, 1, 0, sr, oc, wt, a1, a2, a3, a4, a5, a6, a7, a8, a9, a10, a11, a12, a13, a14, a15, a16, a17, a18, a19, a20, a21, a22, a23, a24, a25, a26)) : wpX_blocked post (jc, 1, 0, sr, oc, wt, a1, a2, a3, a4, a5, a6, a7, a8, a9, a10, a11, a12, a13, a14, a15, a16, a17, a18, a19, a20, a21, a22, a23, a24, a25, a26) 0 := by
  unfold wpX_blocked
  exact rj_isR0 (br_t rfl hp)
theorem rj_bl1 {post : Int32 → St2 → Prop} (hp : post 1 (jc, 1, 1, 1, oc, wt, a1, a2, a3, a4, a5, a6, a7, a8, a9, a10, a11, a12, a13, a14, a15, a16, a17, a18, a19, a20, a21, a22, a23, a24, a25, a26)) : wpX_blocked post (jc, 1, 1, 1, oc, wt, a1, a2, a3, a4, a5, a6, a7, a8, a9, a10, a11, a12, a13, a14, a15, a16, a17, a18, a19, a20, a21, a22, a23, a24, a25, a26) 0 := by
  unfold wpX_blocked
  exact rj_isR1 (br_f (by decide) (rj_why1 hp))
end
end
section
/-! the law -/
section
variable {jc fo rc sr oc wt : Int32} {a1 a2 a3 a4 a5 a6 a7 a8 a9 a10 a11 a12 a13 a14 a15 a16 a17 a18 a19 a20 a21 a22 a23 a24 a25 a26 : Nat → Int32}
theorem rj_97n {post : Int32 → St0 → Prop} {mc ms kc ks : Nat} {x1 x2 : Int32} (h19 : ∀ j, j < 10 → a19 j = -1) (hp : post 1 ()) : wL_lawOf_97 post mc ms x1 x2 0 0 0 kc ks jc 1 0 sr oc wt a1 a2 a3 a4 a5 a6 a7 a8 a9 a10 a11 a12 a13 a14 a15 a16 a17 a18 a19 a20 a21 a22 a23 a24 a25 a26 := by
  have B : ∀ v w : Int32, w = v → wL_lawOf_153 post mc ms 0 v w kc ks jc 1 0 sr oc wt a1 a2 a3 a4 a5 a6 a7 a8 a9 a10 a11 a12 a13 a14 a15 a16 a17 a18 a19 a20 a21 a22 a23 a24 a25 a26 := fun v w e => br_t e (rj_bl0 (br_t rfl (br_t rfl hp)))
  refine br_t rfl (rj_set0 (br_t rfl ?_))
  rcases pk_ix x2 (n := 10) (by omega) with h | h | ⟨s, hs, rfl⟩
  · exact rj_lkB (Or.inl h) (br_t h (B (-1) (-1) rfl))
  · exact rj_lkB (Or.inr h) (br_f (rj_ge10 h).1 (br_f (rj_ge10 h).2.1 (B (-1) (-1) rfl)))
  · exact rj_lkN hs (h19 s hs) (br_f (nI_pos (by omega)) (br_t (nI_le (b := 9) (by omega) (by omega)) (br_t rfl (B (-2) (-2) rfl))))
theorem rj_97j {post : Int32 → St0 → Prop} {mc ms kc ks : Nat} {x2 : Int32} {a b : Nat} (ha : a < 20) (hb : b < 20) (h1 : a1 0 = nI a) (h2 : a2 0 = nI b) (h3a : a3 a = 1) (h3b : a3 b = 1) (h8 : a8 0 = 1) (h9 : a9 0 = 0) (h10 : a10 0 = nI b) (h12 : a12 0 = 0) (h19 : ∀ j, j < 10 → a19 j = -1) (hp : post 1 ()) :
    wL_lawOf_97 post mc ms (nI b) x2 1 1 1 kc ks jc 1 1 0 0 wt a1 a2 a3 a4 a5 a6 a7 a8 a9 a10 a11 a12 a13 a14 a15 a16 a17 a18 a19 a20 a21 a22 a23 a24 a25 a26 := by
  have B : ∀ (v w : Int32) (p q r : Nat → Int32), w = v → wL_lawOf_153 post mc ms 1 v w kc ks jc 1 1 1 0 wt a1 a2 a3 a4 a5 a6 a7 a8 a9 a10 a11 a12 a13 a14 a15 a16 p q r a20 a21 a22 a23 a24 a25 a26 := fun v w p q r e => br_t e (rj_bl1 (br_f (by decide) (br_t rfl hp)))
  refine br_t rfl (rj_set1 ha hb h1 h2 h3a h3b h8 h9 h10 h12 h19 (fun p q => br_t rfl ?_))
  rcases pk_ix x2 (n := 10) (by omega) with h | h | ⟨s, hs, rfl⟩
  · exact rj_lkB (Or.inl h) (br_t h (B (-1) (-1) _ _ _ rfl))
  · exact rj_lkB (Or.inr h) (br_f (rj_ge10 h).1 (br_f (rj_ge10 h).2.1 (B (-1) (-1) _ _ _ rfl)))
  · by_cases e : s = b / 2
    · exact rj_lk0 hs (by rw [e, pk_us]) (br_f (nI_pos (by omega)) (br_t (nI_le (b := 9) (by omega) (by omega)) (br_f (by decide) ⟨by decide, br_t (by rw [rj_h hb, e]) (B 0 0 _ _ _ rfl)⟩)))
    · exact rj_lkN hs (by rw [pk_un e]; exact h19 s hs) (br_f (nI_pos (by omega)) (br_t (nI_le (b := 9) (by omega) (by omega)) (br_f (by decide) ⟨by decide, br_f (by rw [rj_h hb, nI_eq (by omega) (by omega)]; exact e) (B (-2) (-2) _ _ _ rfl)⟩)))
end
theorem rj_44a {post : Int32 → St0 → Prop} {x0 x1 x2 : Int32} (h : x0 < 0 ∨ nI 20 ≤ x0) (hp : post 1 ()) : wL_lawOf_44 post 170 2720 x0 x1 x2 0 0 0 0 :=
  ⟨by omega, by omega, 26, 523, by omega, by omega, rj_init (by omega) (by omega) (fun l p q hl => rj_joint0a h (br_t rfl (rj_sig0 h (br_t rfl (rj_rtN (fun _ => rfl) (fun _ => br_t rfl (rj_97n hl hp)))))))⟩
theorem rj_44b {post : Int32 → St0 → Prop} {a : Nat} {x1 x2 : Int32} (ha : a < 20) (h : (x1 < 0 ∨ nI 20 ≤ x1) ∨ ∃ b, b < 20 ∧ x1 = nI b ∧ nI a / 2 = nI b / 2) (hp : post 1 ()) : wL_lawOf_44 post 170 2720 (nI a) x1 x2 1 0 0 0 := by
  refine ⟨by omega, by omega, 26, 523, by omega, by omega, rj_init (by omega) (by omega) (fun l p q hl => ?_)⟩
  have H5 : ∀ j, j ≠ a → upd (fun _ => 0) a 1 j = 0 := fun j hj => pk_un hj
  have H5a : ¬ upd (fun _ => 0) a 1 a = 0 := by
    rw [pk_us]
    decide
  rcases h with h | ⟨b, hb, rfl, h⟩
  · exact rj_joint0b ha h (br_t rfl (rj_sig1 ha rfl (br_t rfl (rj_rtZ ha H5 H5a rfl (fun _ => br_t rfl (rj_97n hl hp))))))
  · exact rj_joint0c ha hb h (br_t rfl (rj_sig1 ha rfl (br_t rfl (rj_rtZ ha H5 H5a rfl (fun _ => br_t rfl (rj_97n hl hp))))))
theorem rj_44c {post : Int32 → St0 → Prop} {a b : Nat} {x2 : Int32} (ha : a < 20) (hb : b < 20) (hne : a / 2 ≠ b / 2) (hp : post 1 ()) : wL_lawOf_44 post 170 2720 (nI a) (nI b) x2 1 1 0 0 := by
  refine ⟨by omega, by omega, 26, 523, by omega, by omega, rj_init (by omega) (by omega) (fun l p q hl => ?_)⟩
  have H5 : ∀ j, j ≠ a → upd (fun _ => 0) a 1 j = 0 := fun j hj => pk_un hj
  have H5a : ¬ upd (fun _ => 0) a 1 a = 0 := by
    rw [pk_us]
    decide
  obtain ⟨x1, x2, x3⟩ := rj_x2 b hb
  have hab : a ≠ b := fun e => hne (by rw [e])
  have hxa : b ^^^ 1 ≠ a := fun e => hne (by rw [← e, x2])
  have H3a : upd (upd (fun _ => 0) a 1) b 1 a = 1 := by rw [pk_un hab, pk_us]
  have H3b : upd (upd (fun _ => 0) a 1) b 1 b = 1 := pk_us
  have H3c : upd (upd (fun _ => 0) a 1) b 1 (b ^^^ 1) = 0 := by rw [pk_un x3, pk_un hxa]
  have H4 : upd (upd (fun _ => 0) (2 * a) 0) (2 * b) 0 (2 * a) = 0 := by rw [pk_un (by omega), pk_us]
  refine rj_joint1 ha hb hne (fun _ => rfl) (fun p6 => br_t rfl (rj_sig1 ha rfl (br_t rfl (rj_rtO ha hb hne pk_us pk_us H3a H3b H3c H4 H5 H5a hxa (fun b7 b11 b13 b14 b15 b16 => br_f (by decide) ?_)))))
  exact rj_97j ha hb pk_us pk_us H3a H3b pk_us pk_us pk_us pk_us hl hp
theorem rj_law (x y s : Int32) : wpL_lawOf (fun r _ => r = 1) 170 2720 () x y s := by
  rcases pk_ix x (n := 20) (by omega) with h | h | ⟨a, ha, rfl⟩
  · exact br_t h (br_t rfl (rj_44a (Or.inl h) rfl))
  · exact br_f (rj_ge20 h).1 (br_t (rj_ge20 h).2 (br_t rfl (rj_44a (Or.inr h) rfl)))
  · refine br_f (nI_pos (by omega)) (br_f (nI_nlt (b := a) (a := 19) (by omega) (by omega)) (br_f (by decide) ?_))
    rcases pk_ix y (n := 20) (by omega) with h | h | ⟨b, hb, rfl⟩
    · exact br_t h (rj_44b ha (Or.inl (Or.inl h)) rfl)
    · exact br_f (rj_ge20 h).1 (br_t (rj_ge20 h).2 (rj_44b ha (Or.inl (Or.inr h)) rfl))
    · refine br_f (nI_pos (by omega)) (br_f (nI_nlt (b := b) (a := 19) (by omega) (by omega)) ⟨by decide, by decide, br_c (fun e => rj_44b ha (Or.inr ⟨b, hb, rfl, e⟩) rfl) (fun e => rj_44c ha hb (fun z => e (by rw [rj_h ha, rj_h hb, z])) rfl)⟩)
theorem rj_cell {post : Int32 → Prop} {L k : Nat} {xs : Nat → Int32} (hL : L ≤ 3) (hk : k < 3) (hp : ∀ v, post v) : wpL_cellAt post L xs () (nI k) :=
  pk_le L k (fun _ => hp _) (fun z => ⟨pk_in k L z, hp _⟩)
theorem i_vc (xs : Nat → Int32) (L : Nat) (hL : L ≤ 3) : wpL_law (fun r => r = 1) L xs := by
  unfold wpL_law
  exact rj_cell (k := 0) hL (by omega) (fun x => rj_cell (k := 1) hL (by omega) (fun y => rj_cell (k := 2) hL (by omega) (fun s => ⟨170, 2720, by omega, by omega, rj_law x y s⟩)))
end
