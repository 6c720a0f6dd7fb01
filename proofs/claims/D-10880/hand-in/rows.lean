section
/-! indices -/
theorem cc_x4 (s j : Nat) : nI s * 4 + nI j = nI (s * 4 + j) := by
  rw [show (4 : Int32) = nI 4 from rfl, pk_mul, nI_add]
theorem cc_x6 (b i : Nat) : nI b * 6 + nI i = nI (b * 6 + i) := by
  rw [show (6 : Int32) = nI 6 from rfl, pk_mul, nI_add]
theorem cc_y4 (s : Nat) : nI s * 4 = nI (s * 4) := by
  rw [show (4 : Int32) = nI 4 from rfl, pk_mul]
theorem cc_y6 (s : Nat) : nI s * 6 = nI (s * 6) := by
  rw [show (6 : Int32) = nI 6 from rfl, pk_mul]
theorem cc_cl {k : Nat} (h : k < 200) : (nI k).toNatClampNeg = k := nI_clamp (by omega)
theorem cc_c4 {s j : Nat} (hs : s < 5) (hj : j < 4) : (nI s * 4 + nI j).toNatClampNeg = s * 4 + j := by
  rw [cc_x4]
  exact nI_clamp (by omega)
theorem cc_c6 {b i : Nat} (hb : b < 20) (hi : i < 6) : (nI b * 6 + nI i).toNatClampNeg = b * 6 + i := by
  rw [cc_x6]
  exact nI_clamp (by omega)
theorem cc_i4 {s j : Nat} (hs : s < 5) (hj : j < 4) : vp_in (nI s * 4 + nI j) 20 := by
  rw [cc_x4]
  exact vp_in_nI (by omega) (by omega)
theorem cc_i6 {b i : Nat} (hb : b < 20) (hi : i < 6) : vp_in (nI b * 6 + nI i) 120 := by
  rw [cc_x6]
  exact vp_in_nI (by omega) (by omega)
/-- out of 0 .. N - 1 -/
def cc_bd (N : Nat) (x : Int32) : Prop := x < 0 ∨ nI N ≤ x
theorem cc_ix (x : Int32) {N : Nat} (hN : N < 2 ^ 31) : cc_bd N x ∨ ∃ t : Nat, t < N ∧ x = nI t := by
  rcases pk_ix x hN with h | h | h
  · exact Or.inl (Or.inl h)
  · exact Or.inl (Or.inr h)
  · exact Or.inr h
/-- the law's and the class's ways to ask for a range -/
theorem cc_w {A B : Prop} {x M : Int32} (N : Nat) (hN : N < 2 ^ 30) (hM : M = nI N) (H0 : cc_bd (N + 1) x → A) (H1 : ∀ t : Nat, t < N + 1 → x = nI t → B) : (x < 0 → A) ∧ (¬ x < 0 → ((M < x → A) ∧ (¬ M < x → B))) := by
  subst hM
  rcases pk_ix x (n := N + 1) (by omega) with h | h | ⟨t, ht, rfl⟩
  · exact br_t h (H0 (Or.inl h))
  · exact ⟨fun z => H0 (Or.inl z), fun _ => br_t (Int32.lt_of_lt_of_le (nI_lt (Nat.lt_succ_self N) (by omega)) h) (H0 (Or.inr h))⟩
  · exact br_f (nI_pos (by omega)) (br_f (nI_nlt (by omega) (by omega)) (H1 t ht rfl))
theorem cc_v {A B : Prop} {x M : Int32} (N : Nat) (hN : N < 2 ^ 31) (hM : M = nI N) (H0 : cc_bd N x → A) (H1 : ∀ t : Nat, t < N → x = nI t → B) : (x < 0 → A) ∧ (¬ x < 0 → ((x < M → B) ∧ (¬ x < M → A))) := by
  subst hM
  rcases pk_ix x hN with h | h | ⟨t, ht, rfl⟩
  · exact br_t h (H0 (Or.inl h))
  · exact ⟨fun z => H0 (Or.inl z), fun _ => br_f (Int32.not_lt.mpr h) (H0 (Or.inr h))⟩
  · exact br_f (nI_pos (by omega)) (br_t (nI_lt ht hN) (H1 t ht rfl))
theorem cc_nb {N t : Nat} (ht : t < N) (hN : N < 2 ^ 31) : ¬ cc_bd N (nI t) := fun h => h.elim (nI_pos (by omega)) (nI_ge ht hN)
/-! the sum of a block -/
def cc_sm (a6 a7 : Nat → Int32) (b : Nat) : Nat → Int32
  | 0 => 29 + a7 b
  | i + 1 => cc_sm a6 a7 b i * 16777619 + a6 (b * 6 + i)
theorem cc_sm_eq {a6 a7 w6 w7 : Nat → Int32} {b : Nat} (h7 : w7 b = a7 b) (h6 : ∀ i, i < 6 → w6 (b * 6 + i) = a6 (b * 6 + i)) : ∀ i, i ≤ 6 → cc_sm w6 w7 b i = cc_sm a6 a7 b i := by
  intro i
  induction i with
  | zero => intro _; show 29 + w7 b = 29 + a7 b; rw [h7]
  | succ i ih => intro hi; show cc_sm w6 w7 b i * 16777619 + w6 (b * 6 + i) = cc_sm a6 a7 b i * 16777619 + a6 (b * 6 + i); rw [ih (by omega), h6 i (by omega)]
theorem cc_odd {x y z : Int32} (h : x * 16777619 + z = y * 16777619 + z) : x = y := by
  have h1 : x * 16777619 = y * 16777619 := by
    have := congrArg (fun t => t - z) h
    simpa using this
  have h2 : x * 16777619 * 899433627 = y * 16777619 * 899433627 := by rw [h1]
  rw [Int32.mul_assoc, Int32.mul_assoc, show (16777619 : Int32) * 899433627 = 1 by decide, Int32.mul_one, Int32.mul_one] at h2
  exact h2
theorem cc_xor1 (x : Int32) : x ^^^ 1 ≠ x := by
  intro h
  have h1 : x ^^^ (x ^^^ 1) = x ^^^ x := by rw [h]
  rw [← Int32.xor_assoc, Int32.xor_self, Int32.zero_xor] at h1
  exact absurd h1 (by decide)
/-- a changed first cell changes the sum -/
theorem cc_flip {a6 a7 : Nat → Int32} {b : Nat} : ∀ i, cc_sm (upd a6 (b * 6) (a6 (b * 6) ^^^ 1)) a7 b (i + 1) ≠ cc_sm a6 a7 b (i + 1) := by
  intro i
  induction i with
  | zero =>
    show (29 + a7 b) * 16777619 + upd a6 (b * 6) (a6 (b * 6) ^^^ 1) (b * 6) ≠ (29 + a7 b) * 16777619 + a6 (b * 6)
    rw [pk_us]
    intro h
    have := congrArg (fun t => t - (29 + a7 b) * 16777619) h
    exact cc_xor1 _ (by simpa [Int32.add_comm] using this)
  | succ i ih =>
    show cc_sm (upd a6 (b * 6) (a6 (b * 6) ^^^ 1)) a7 b (i + 1) * 16777619 + upd a6 (b * 6) (a6 (b * 6) ^^^ 1) (b * 6 + (i + 1)) ≠ cc_sm a6 a7 b (i + 1) * 16777619 + a6 (b * 6 + (i + 1))
    rw [pk_un (by omega)]
    intro h
    exact ih (cc_odd h)
section
variable {c lv : Int32} {a1 a2 a3 a4 a5 a6 a7 a8 a9 : Nat → Int32}
theorem cc_sum {post : Int32 → Prop} {b : Nat} (hb : b < 20) (H : post (cc_sm a6 a7 b 6)) : wpX_sumOf post (c, lv, a1, a2, a3, a4, a5, a6, a7, a8, a9) (nI b) := by
  unfold wpX_sumOf
  refine ⟨pk_in b 20 hb, nm_r (e' := cc_sm a6 a7 b 0) (by rw [cc_cl (by omega)]; rfl) ?_⟩
  exact pk_loop (fun n i s => wX_sumOf_12 post (nI b) c lv a1 a2 a3 a4 a5 a6 a7 a8 a9 n s (nI i)) (fun i s => s = cc_sm a6 a7 b i) 6 0 _ (by omega) rfl
    (fun n s h => pk_le 6 6 (fun _ => by rw [h]; exact H) (fun z => absurd z (by omega)))
    (fun n i s hi h hw => pk_le 6 i (fun z => absurd z (by omega)) (fun _ => ⟨cc_i6 hb hi, nm_r (e' := cc_sm a6 a7 b (i + 1)) (by rw [h, cc_c6 hb hi]; rfl) (nm_r (nI_1 i) (hw _ rfl))⟩))
theorem cc_bfB {post : Int32 → Prop} {x : Int32} (h : cc_bd 4 x) (H : post 1) : wpX_badFile post () x := by
  unfold wpX_badFile
  exact cc_v 4 (by omega) rfl (fun _ => H) (fun t ht e => absurd (e ▸ h) (cc_nb ht (by omega)))
theorem cc_bfG {post : Int32 → Prop} {k : Nat} (h : k < 4) (H : post 0) : wpX_badFile post () (nI k) := by
  unfold wpX_badFile
  exact cc_v 4 (by omega) rfl (fun z => absurd z (cc_nb h (by omega))) (fun _ _ _ => H)
theorem cc_bsB {post : Int32 → Prop} {x : Int32} (h : cc_bd 5 x) (H : post 1) : wpX_badServer post () x := by
  unfold wpX_badServer
  exact cc_v 5 (by omega) rfl (fun _ => H) (fun t ht e => absurd (e ▸ h) (cc_nb ht (by omega)))
theorem cc_bsG {post : Int32 → Prop} {k : Nat} (h : k < 5) (H : post 0) : wpX_badServer post () (nI k) := by
  unfold wpX_badServer
  exact cc_v 5 (by omega) rfl (fun z => absurd z (cc_nb h (by omega))) (fun _ _ _ => H)
/-! current -/
theorem cc_cu0 {post : Int32 → Prop} {s j : Nat} (hs : s < 5) (hj : j < 4) (h : a4 (s * 4 + j) = -1) (H : post 0) : wpX_current post (c, lv, a1, a2, a3, a4, a5, a6, a7, a8, a9) (nI s) (nI j) := by
  unfold wpX_current
  exact ⟨cc_i4 hs hj, nm_r (e' := -1) (by rw [cc_c4 hs hj]; exact h) (br_t (by decide) H)⟩
theorem cc_cu1 {post : Int32 → Prop} {s j b : Nat} (hs : s < 5) (hj : j < 4) (hb : b < 20) (h : a4 (s * 4 + j) = nI b) (he : a2 j = 1) (hv : a5 (s * 4 + j) = a3 j) (H1 : cc_sm a6 a7 b 6 = a8 b → post 1) (H0 : ¬ cc_sm a6 a7 b 6 = a8 b → post 0) : wpX_current post (c, lv, a1, a2, a3, a4, a5, a6, a7, a8, a9) (nI s) (nI j) := by
  unfold wpX_current
  refine ⟨cc_i4 hs hj, nm_r (e' := nI b) (by rw [cc_c4 hs hj]; exact h) (br_f (nI_pos (by omega)) ⟨pk_in j 4 hj, br_f (by rw [cc_cl (by omega), he]; decide) ⟨cc_i4 hs hj, pk_in j 4 hj, br_t (by rw [cc_c4 hs hj, cc_cl (by omega)]; exact hv) (cc_sum hb ⟨pk_in b 20 hb, ?_⟩)⟩⟩)⟩
  rw [cc_cl (show b < 200 by omega)]
  exact br_c H1 H0
end
/-- current answers q -/
def cc_C (u : St2) (s j : Nat) (q : Bool) : Prop := ∀ p : Int32 → Prop, (q = true → p 1) → (q = false → p 0) → wpX_current p u (nI s) (nI j)
def cc_ld (Q : Nat → Bool) : Nat → Nat
  | 0 => 0
  | j + 1 => if Q j = true then cc_ld Q j + 1 else cc_ld Q j
theorem cc_ldT {Q : Nat → Bool} {j : Nat} (h : Q j = true) : cc_ld Q (j + 1) = cc_ld Q j + 1 := if_pos h
theorem cc_ldF {Q : Nat → Bool} {j : Nat} (h : Q j = false) : cc_ld Q (j + 1) = cc_ld Q j := if_neg (by rw [h]; decide)
def cc_ms (Q : Nat → Bool) : Nat → Int32
  | 0 => 0
  | j + 1 => if Q j = true then cc_ms Q j ||| ((1 : Int32) <<< (nI j &&& 31)) else cc_ms Q j
theorem cc_msT {Q : Nat → Bool} {j : Nat} (h : Q j = true) : cc_ms Q (j + 1) = cc_ms Q j ||| ((1 : Int32) <<< (nI j &&& 31)) := if_pos h
theorem cc_msF {Q : Nat → Bool} {j : Nat} (h : Q j = false) : cc_ms Q (j + 1) = cc_ms Q j := if_neg (by rw [h]; decide)
def cc_bt (x : Int32) : Nat → Int32
  | 0 => 0
  | j + 1 => cc_bt x j + ((x >>> (nI j &&& 31)) &&& 1)
section
variable {c lv : Int32} {a1 a2 a3 a4 a5 a6 a7 a8 a9 : Nat → Int32}
theorem cc_load {post : Int32 → Prop} {s : Nat} (Q : Nat → Bool) (hC : ∀ j, j < 4 → cc_C (c, lv, a1, a2, a3, a4, a5, a6, a7, a8, a9) s j (Q j)) (H : post (nI (cc_ld Q 4))) : wpX_loadOf post (c, lv, a1, a2, a3, a4, a5, a6, a7, a8, a9) (nI s) := by
  unfold wpX_loadOf
  exact pk_loop (fun n i t => wX_loadOf_4 post (nI s) c lv a1 a2 a3 a4 a5 a6 a7 a8 a9 n t (nI i)) (fun i t => t = nI (cc_ld Q i)) 4 0 _ (by omega) rfl
    (fun n t h => pk_le 4 4 (fun _ => by rw [h]; exact H) (fun z => absurd z (by omega)))
    (fun n i t hi h hw => pk_le 4 i (fun z => absurd z (by omega)) (fun _ => hC i hi _
      (fun q => br_f (by decide) (nm_r (e' := nI (cc_ld Q (i + 1))) (by rw [h, nI_1, cc_ldT q]) (nm_r (nI_1 i) (hw _ rfl))))
      (fun q => br_t rfl (nm_r (nI_1 i) (hw _ (by rw [h, cc_ldF q]))))))
theorem cc_cset {post : Int32 → Prop} {k : Nat} (Q : Nat → Bool) (hC : ∀ s, s < 5 → cc_C (c, lv, a1, a2, a3, a4, a5, a6, a7, a8, a9) s k (Q s)) (H : post (cc_ms Q 5)) : wpX_currentSet post (c, lv, a1, a2, a3, a4, a5, a6, a7, a8, a9) (nI k) := by
  unfold wpX_currentSet
  exact pk_loop (fun n i t => wX_currentSet_4 post (nI k) c lv a1 a2 a3 a4 a5 a6 a7 a8 a9 n t (nI i)) (fun i t => t = cc_ms Q i) 5 0 _ (by omega) rfl
    (fun n t h => pk_le 5 5 (fun _ => by rw [h]; exact H) (fun z => absurd z (by omega)))
    (fun n i t hi h hw => pk_le 5 i (fun z => absurd z (by omega)) (fun _ => hC i hi _
      (fun q => br_f (by decide) (nm_r (e' := cc_ms Q (i + 1)) (by rw [h, cc_msT q]) (nm_r (nI_1 i) (hw _ rfl))))
      (fun q => br_t rfl (nm_r (nI_1 i) (hw _ (by rw [h, cc_msF q]))))))
theorem cc_up {post : Int32 → Prop} (h1 : ∀ s, s < 5 → a1 s = 1) (H : post 31) : wpX_upSet post (c, lv, a1, a2, a3, a4, a5, a6, a7, a8, a9) := by
  unfold wpX_upSet
  exact pk_loop (fun n i t => wX_upSet_4 post c lv a1 a2 a3 a4 a5 a6 a7 a8 a9 n t (nI i)) (fun i t => t = cc_ms (fun _ => true) i) 5 0 _ (by omega) rfl
    (fun n t h => pk_le 5 5 (fun _ => by rw [h]; exact H) (fun z => absurd z (by omega)))
    (fun n i t hi h hw => pk_le 5 i (fun z => absurd z (by omega)) (fun _ => ⟨pk_in i 5 hi, br_f (by rw [cc_cl (by omega), h1 i hi]; decide) (nm_r (e' := cc_ms (fun _ => true) (i + 1)) (by rw [h]; rfl) (nm_r (nI_1 i) (hw _ rfl)))⟩))
theorem cc_bits {post : Int32 → Prop} {x : Int32} (H : post (cc_bt x 5)) : wpX_bits post () x := by
  unfold wpX_bits
  exact pk_loop (fun n i t => wX_bits_4 post x n t (nI i)) (fun i t => t = cc_bt x i) 5 0 _ (by omega) rfl
    (fun n t h => pk_le 5 5 (fun _ => by rw [h]; exact H) (fun z => absurd z (by omega)))
    (fun n i t hi h hw => pk_le 5 i (fun z => absurd z (by omega)) (fun _ => nm_r (e' := cc_bt x (i + 1)) (by rw [h]; rfl) (nm_r (nI_1 i) (hw _ rfl))))
/-- the first server is up and has it -/
theorem cc_src {post : Int32 → Prop} {k : Nat} (h1 : a1 0 = 1) (hC : cc_C (c, lv, a1, a2, a3, a4, a5, a6, a7, a8, a9) 0 k true) (H : post 0) : wpX_source post (c, lv, a1, a2, a3, a4, a5, a6, a7, a8, a9) (nI k) := by
  unfold wpX_source
  refine ⟨1, ?_⟩
  exact pk_le 5 0 (fun z => absurd z (by omega)) (fun _ => ⟨pk_in 0 5 (by omega), br_f (by rw [sb_cl0, h1]; decide) (hC _ (fun _ => br_f (by decide) H) (fun z => absurd z (by decide)))⟩)
theorem cc_refB {post : Int32 → Prop} {x : Int32} (h : cc_bd 4 x) (H : post (-1)) : wpX_refusal post (c, lv, a1, a2, a3, a4, a5, a6, a7, a8, a9) x := by
  unfold wpX_refusal
  exact cc_bfB h (br_f (by decide) H)
theorem cc_refG {post : Int32 → Prop} {k : Nat} (hk : k < 4) (h1 : a1 0 = 1) (h2 : a2 k = 1) (hC : cc_C (c, lv, a1, a2, a3, a4, a5, a6, a7, a8, a9) 0 k true) (H : post 0) : wpX_refusal post (c, lv, a1, a2, a3, a4, a5, a6, a7, a8, a9) (nI k) := by
  unfold wpX_refusal
  exact cc_bfG hk (br_t rfl ⟨pk_in k 4 hk, br_f (by rw [cc_cl (by omega), h2]; decide) (cc_src h1 hC (br_t (by decide) H))⟩)
theorem cc_lg {post : St2 → Prop} {s j : Nat} (hs : s < 5) (hj : j < 4) (h : a4 (s * 4 + j) = -1 ∨ ∃ b : Nat, b < 20 ∧ a4 (s * 4 + j) = nI b) (H : ∀ w9, (a4 (s * 4 + j) = -1 → w9 = a9) → post (c, lv, a1, a2, a3, upd a4 (s * 4 + j) (-1), a5, a6, a7, a8, w9)) : wpX_letGo post (c, lv, a1, a2, a3, a4, a5, a6, a7, a8, a9) (nI s) (nI j) := by
  unfold wpX_letGo
  rcases h with h | ⟨b, hb, h⟩
  · refine ⟨cc_i4 hs hj, nm_r (e' := -1) (by rw [cc_c4 hs hj]; exact h) (br_t (by decide) ?_)⟩
    unfold wX_letGo_25
    exact ⟨cc_i4 hs hj, nm_r (by rw [cc_c4 hs hj]) (H a9 (fun _ => rfl))⟩
  · refine ⟨cc_i4 hs hj, nm_r (e' := nI b) (by rw [cc_c4 hs hj]; exact h) (br_f (nI_pos (by omega)) ⟨pk_in b 20 hb, pk_in b 20 hb, nm_e ?_⟩)⟩
    unfold wX_letGo_25
    exact ⟨cc_i4 hs hj, nm_r (by rw [cc_c4 hs hj]) (H _ (fun z => absurd (z ▸ h : (-1 : Int32) = nI b) (fun y => nI_pos (n := b) (by omega) (y ▸ (by decide)))))⟩
theorem cc_fb {post : Int32 → Prop} {s : Nat} (hs : s < 5) (h9 : a9 (s * 4) = 0) (H : post (nI (s * 4))) : wpX_freeBlock post (c, lv, a1, a2, a3, a4, a5, a6, a7, a8, a9) (nI s) := by
  unfold wpX_freeBlock
  refine nm_r (cc_y4 s) ⟨1, ?_⟩
  exact pk_le (s * 4 + 3) (s * 4) (fun z => absurd z (by omega)) (fun _ => ⟨pk_in (s * 4) 20 (by omega), br_t (by rw [cc_cl (by omega), h9]; decide) H⟩) (by rw [cc_y4, show (4 : Int32) = nI 4 from rfl, nI_add, show (1 : Int32) = nI 1 from rfl, pk_sub (by omega)]; rfl)
theorem cc_nr {post : Int32 → St2 → Prop} {s k : Nat} (hs : s < 5) (hk : k < 4) (h4 : a4 (s * 4 + k) = -1) (h9 : a9 (s * 4) = 0) (H : post (nI (s * 4)) (c, lv, a1, a2, a3, upd (upd a4 (s * 4 + k) (-1)) (s * 4 + k) (nI (s * 4)), upd a5 (s * 4 + k) (a3 k), a6, a7, a8, upd a9 (s * 4) 1)) : wpX_newReplica post (c, lv, a1, a2, a3, a4, a5, a6, a7, a8, a9) (nI s) (nI k) := by
  unfold wpX_newReplica
  refine cc_lg hs hk (Or.inl h4) (fun w9 e => ?_)
  have e9 := e h4
  subst e9
  exact cc_fb hs h9 ⟨pk_in (s * 4) 20 (by omega), nm_r (by rw [cc_cl (by omega)]) ⟨cc_i4 hs hk, nm_r (by rw [cc_c4 hs hk]) ⟨pk_in k 4 hk, cc_i4 hs hk, nm_r (by rw [cc_c4 hs hk, cc_cl (by omega)]) H⟩⟩⟩
/-- the file's block is its own -/
theorem cc_ob {post : Int32 → St2 → Prop} {s k b : Nat} (hs : s < 5) (hk : k < 4) (hb : b < 20) (h4 : a4 (s * 4 + k) = nI b) (h9 : a9 b = 1) (H : post (nI b) (c, lv, a1, a2, a3, a4, a5, a6, a7, a8, a9)) : wpX_ownBlock post (c, lv, a1, a2, a3, a4, a5, a6, a7, a8, a9) (nI s) (nI k) := by
  unfold wpX_ownBlock
  exact ⟨cc_i4 hs hk, nm_r (e' := nI b) (by rw [cc_c4 hs hk]; exact h4) ⟨pk_in b 20 hb, br_t (by rw [cc_cl (by omega)]; exact h9) H⟩⟩
/-! snapshot: the roads that the law takes -/
theorem cc_snP {post : Int32 → St2 → Prop} {x y : Int32} (h : cc_bd 4 x) (H : post (-1) (c, lv, a1, a2, a3, a4, a5, a6, a7, a8, a9)) : wpX_snapshot post (c, lv, a1, a2, a3, a4, a5, a6, a7, a8, a9) x y := by
  unfold wpX_snapshot
  exact cc_bfB h (br_f (by decide) H)
theorem cc_snQ {post : Int32 → St2 → Prop} {x y : Int32} (h : cc_bd 4 y) (H : post (-1) (c, lv, a1, a2, a3, a4, a5, a6, a7, a8, a9)) : wpX_snapshot post (c, lv, a1, a2, a3, a4, a5, a6, a7, a8, a9) x y := by
  rcases cc_ix x (N := 4) (by omega) with hx | ⟨t, ht, rfl⟩
  · exact cc_snP hx H
  · unfold wpX_snapshot
    exact cc_bfG ht (br_t rfl (cc_bfB h (br_f (by decide) H)))
theorem cc_sn3 {post : Int32 → St2 → Prop} {j k : Nat} (hj : j < 4) (hk : k < 4) (h : a2 j = 0) (H : post (-3) (c, lv, a1, a2, a3, a4, a5, a6, a7, a8, a9)) : wpX_snapshot post (c, lv, a1, a2, a3, a4, a5, a6, a7, a8, a9) (nI j) (nI k) := by
  unfold wpX_snapshot
  exact cc_bfG hj (br_t rfl (cc_bfG hk (br_t rfl ⟨pk_in j 4 hj, br_t (by rw [cc_cl (by omega)]; exact h) H⟩)))
theorem cc_sn2 {post : Int32 → St2 → Prop} {j k : Nat} (hj : j < 4) (hk : k < 4) (h : a2 j = 1) (h' : a2 k = 1) (H : post (-2) (c, lv, a1, a2, a3, a4, a5, a6, a7, a8, a9)) : wpX_snapshot post (c, lv, a1, a2, a3, a4, a5, a6, a7, a8, a9) (nI j) (nI k) := by
  unfold wpX_snapshot
  exact cc_bfG hj (br_t rfl (cc_bfG hk (br_t rfl ⟨pk_in j 4 hj, br_f (by rw [cc_cl (by omega), h]; decide) ⟨pk_in k 4 hk, br_f (by rw [cc_cl (by omega), h']; decide) H⟩⟩)))
end
end
section
/-! masks -/
theorem cc_ld0 : cc_ld (fun _ => false) 4 = 0 := by decide
theorem cc_ldk (q : Bool) : ∀ k, k < 4 → cc_ld (fun j => decide (j = k) && q) 4 = if q = true then 1 else 0 := by
  cases q <;> decide +kernel
theorem cc_msn : ∀ n, n < 4 → cc_ms (fun s => decide (s < n)) 5 = nI (2 ^ n - 1) := by decide +kernel
theorem cc_btn : ∀ n, n < 4 → cc_bt (nI (2 ^ n - 1)) 5 = nI n := by decide +kernel
theorem cc_and31 : ∀ n, n < 4 → nI (2 ^ n - 1) &&& 31 = nI (2 ^ n - 1) := by decide +kernel
theorem cc_bitn : ∀ n, n < 4 → ∀ i, i < 5 → (((nI (2 ^ n - 1) >>> (nI i &&& 31)) &&& 1) = 1 ↔ i < n) := by decide +kernel
theorem cc_lfne : ∀ n, n < 4 → ¬ nI (32 - 2 ^ n) = 0 := by decide +kernel
theorem cc_lfbit : ∀ n, n < 4 → ∀ i, i < 5 → (((nI (32 - 2 ^ n) >>> (nI i &&& 31)) &&& 1) = 1 ↔ n ≤ i) := by decide +kernel
theorem cc_lfnext : ∀ n, n < 4 → nI (32 - 2 ^ n) &&& (((1 : Int32) <<< (nI n &&& 31)) ^^^ (-1)) = nI (32 - 2 ^ (n + 1)) := by decide +kernel
/-! the picture: file k is there, servers below m have it, each in its own first block, with a right check -/
def cc_P (k m : Nat) (a1 a2 a3 a4 a5 a6 a7 a8 a9 : Nat → Int32) : Prop :=
  (∀ s, s < 5 → a1 s = 1) ∧ (∀ j, j < 4 → a2 j = if j = k then 1 else 0) ∧
  (∀ s j, s < 5 → j < 4 → a4 (s * 4 + j) = if j = k ∧ s < m then nI (s * 4) else -1) ∧
  (∀ s, s < m → a5 (s * 4 + k) = a3 k) ∧ (∀ s, s < 5 → a9 (s * 4) = if s < m then 1 else 0) ∧
  (∀ s, s < m → cc_sm a6 a7 (s * 4) 6 = a8 (s * 4))
/-- block numbers that can be let go -/
def cc_B (a : Nat → Int32) : Prop := ∀ i, i < 20 → a i = -1 ∨ ∃ b : Nat, b < 20 ∧ a i = nI b
theorem cc_B_upd {a : Nat → Int32} {k : Nat} (h : cc_B a) : cc_B (upd a k (-1)) := by
  intro i hi
  by_cases e : i = k
  · rw [e, pk_us]
    exact Or.inl rfl
  · rw [pk_un e]
    exact h i hi
section
variable {c lv : Int32} {a1 a2 a3 a4 a5 a6 a7 a8 a9 : Nat → Int32}
theorem cc_PB {k m : Nat} (hP : cc_P k m a1 a2 a3 a4 a5 a6 a7 a8 a9) : cc_B a4 := by
  intro i hi
  obtain ⟨_, _, h4, _⟩ := hP
  have e : i = i / 4 * 4 + i % 4 := by omega
  have h := h4 (i / 4) (i % 4) (by omega) (by omega)
  rw [← e] at h
  by_cases g : i % 4 = k ∧ i / 4 < m
  · rw [if_pos g] at h
    exact Or.inr ⟨i / 4 * 4, by omega, h⟩
  · rw [if_neg g] at h
    exact Or.inl h
theorem cc_Pk {k m : Nat} (hk : k < 4) (hP : cc_P k m a1 a2 a3 a4 a5 a6 a7 a8 a9) : a2 k = 1 := by
  rw [hP.2.1 k hk]
  exact if_pos rfl
theorem cc_P4 {k m s : Nat} (hk : k < 4) (hs : s < 5) (hm : s < m) (hP : cc_P k m a1 a2 a3 a4 a5 a6 a7 a8 a9) : a4 (s * 4 + k) = nI (s * 4) := by
  rw [hP.2.2.1 s k hs hk]
  exact if_pos ⟨rfl, hm⟩
theorem cc_P9 {k m s : Nat} (hs : s < 5) (hm : s < m) (hP : cc_P k m a1 a2 a3 a4 a5 a6 a7 a8 a9) : a9 (s * 4) = 1 := by
  rw [hP.2.2.2.2.1 s hs]
  exact if_pos hm
theorem cc_Pn {k m s j : Nat} (hs : s < 5) (hj : j < 4) (h : ¬ (j = k ∧ s < m)) (hP : cc_P k m a1 a2 a3 a4 a5 a6 a7 a8 a9) : a4 (s * 4 + j) = -1 := by
  rw [hP.2.2.1 s j hs hj]
  exact if_neg h
/-- who is current in the picture -/
theorem cc_Pcur {k m s j : Nat} (q : Bool) (hk : k < 4) (hs : s < 5) (hj : j < 4) (hq : q = true ↔ (j = k ∧ s < m)) (hP : cc_P k m a1 a2 a3 a4 a5 a6 a7 a8 a9) : cc_C (c, lv, a1, a2, a3, a4, a5, a6, a7, a8, a9) s j q := by
  intro p p1 p0
  by_cases g : j = k ∧ s < m
  · obtain ⟨rfl, hm⟩ := g
    exact cc_cu1 hs hj (b := s * 4) (by omega) (cc_P4 hk hs hm hP) (cc_Pk hk hP) (hP.2.2.2.1 s hm) (fun _ => p1 (hq.mpr ⟨rfl, hm⟩)) (fun z => absurd (hP.2.2.2.2.2 s hm) z)
  · refine cc_cu0 hs hj (cc_Pn hs hj g hP) (p0 ?_)
    cases q with
    | false => rfl
    | true => exact absurd (hq.mp rfl) g
theorem cc_lose {post : Int32 → St2 → Prop} {s : Nat} (hs : s < 5) (Q : Nat → Bool) (hC : ∀ j, j < 4 → cc_C (c, lv, a1, a2, a3, a4, a5, a6, a7, a8, a9) s j (Q j)) (h4 : cc_B a4) (H : ∀ w4 w9, post (nI (cc_ld Q 4)) (c, lv, a1, a2, a3, w4, a5, a6, a7, a8, w9)) : wpX_loseDisk post (c, lv, a1, a2, a3, a4, a5, a6, a7, a8, a9) (nI s) := by
  unfold wpX_loseDisk
  refine cc_bsG hs (br_t rfl (cc_load Q hC ?_))
  exact pk_loop (σ := (Nat → Int32) × (Nat → Int32)) (fun n i t => wX_loseDisk_17 post (nI s) (nI (cc_ld Q 4)) n (nI i) c lv a1 a2 a3 t.1 a5 a6 a7 a8 t.2) (fun i t => cc_B t.1) 4 0 (a4, a9) (by omega) h4
    (fun n t h => pk_le 4 4 (fun _ => H t.1 t.2) (fun z => absurd z (by omega)))
    (fun n i t hi h hw => pk_le 4 i (fun z => absurd z (by omega)) (fun _ => cc_lg hs hi (h _ (by omega)) (fun w9 _ => nm_r (nI_1 i) (hw (upd t.1 (s * 4 + i) (-1), w9) (cc_B_upd h)))))
theorem cc_loseB {post : Int32 → St2 → Prop} {x : Int32} (h : cc_bd 5 x) (H : post (-1) (c, lv, a1, a2, a3, a4, a5, a6, a7, a8, a9)) : wpX_loseDisk post (c, lv, a1, a2, a3, a4, a5, a6, a7, a8, a9) x := by
  unfold wpX_loseDisk
  exact cc_bsB h (br_f (by decide) H)
/-! create -/
theorem cc_first {post : Int32 → Prop} {x : Int32} {m : Nat} (hm : m < 5) (hb : ∀ i, i < 5 → (((x >>> (nI i &&& 31)) &&& 1) = 1 ↔ m ≤ i)) (hL : ∀ i, m ≤ i → i < 5 → ∀ p : Int32 → Prop, p 0 → wpX_loadOf p (c, lv, a1, a2, a3, a4, a5, a6, a7, a8, a9) (nI i)) (H : post (nI m)) : wpX_firstOf post (c, lv, a1, a2, a3, a4, a5, a6, a7, a8, a9) x := by
  unfold wpX_firstOf
  exact pk_loop (fun n i (t : Int32 × Int32) => wX_firstOf_7 post x c lv a1 a2 a3 a4 a5 a6 a7 a8 a9 n t.1 t.2 (nI i)) (fun i t => (i ≤ m → t = (-1, 0)) ∧ (m < i → t = (nI m, 0))) 5 0 (-1, 0) (by omega) ⟨fun _ => rfl, fun z => absurd z (by omega)⟩
    (fun n t h => pk_le 5 5 (fun _ => by rw [h.2 hm]; exact H) (fun z => absurd z (by omega)))
    (fun n i t hi h hw => pk_le 5 i (fun z => absurd z (by omega)) (fun _ => by
      by_cases g : m ≤ i
      · refine br_t ((hb i hi).mpr g) (hL i g hi _ ?_)
        by_cases e : i = m
        · rw [h.1 (by omega)]
          exact br_t (show (-1 : Int32) < 0 by decide) (nm_r (nI_1 i) (hw (nI i, 0) ⟨fun z => absurd z (by omega), fun _ => by rw [e]⟩))
        · rw [h.2 (by omega)]
          exact br_f (show ¬ nI m < 0 from nI_pos (by omega)) (br_t (show (0 : Int32) ≤ 0 by decide) (nm_r (nI_1 i) (hw (nI m, 0) ⟨fun z => absurd z (by omega), fun _ => rfl⟩)))
      · exact br_f (fun z => g ((hb i hi).mp z)) (nm_r (nI_1 i) (hw t ⟨fun _ => h.1 (by omega), fun z => absurd z (by omega)⟩))))
theorem cc_91 {post : Int32 → St2 → Prop} {J : Int32 → Int32 → Int32 → Int32 → Int32 → (Nat → Int32) → (Nat → Int32) → (Nat → Int32) → (Nat → Int32) → (Nat → Int32) → (Nat → Int32) → (Nat → Int32) → (Nat → Int32) → (Nat → Int32) → Prop} {x1 x2 x3 x4 : Int32} {b : Nat} (hb : b < 20)
    (H : ∀ w6, (∀ x, (x < b * 6 ∨ b * 6 + 6 ≤ x) → w6 x = a6 x) → J x2 (x3 + 1) (x4 + 1) c lv a1 a2 a3 a4 a5 w6 (upd a7 b 0) (upd a8 b (cc_sm w6 (upd a7 b 0) b 6)) a9) :
    ∃ n, wX_create_91 post J x1 x2 x3 x4 (nI b) c lv n 0 a1 a2 a3 a4 a5 a6 a7 a8 a9 :=
  pk_loop (fun n i t => wX_create_91 post J x1 x2 x3 x4 (nI b) c lv n (nI i) a1 a2 a3 a4 a5 t a7 a8 a9) (fun _ t => ∀ x, (x < b * 6 ∨ b * 6 + 6 ≤ x) → t x = a6 x) 6 0 a6 (by omega) (fun _ _ => rfl)
    (fun n t h => pk_le 6 6 (fun _ => ⟨pk_in b 20 hb, nm_r (e' := upd a7 b 0) (by rw [cc_cl (by omega)]) (cc_sum hb ⟨pk_in b 20 hb, nm_r (e' := upd a8 b (cc_sm t (upd a7 b 0) b 6)) (by rw [cc_cl (by omega)]) (nm_e (nm_e (H t h)))⟩)⟩) (fun z => absurd z (by omega)))
    (fun n i t hi h hw => pk_le 6 i (fun z => absurd z (by omega)) (fun _ => ⟨cc_i6 hb hi, nm_r (e' := upd t (b * 6 + i) 0) (by rw [cc_c6 hb hi]) (nm_r (nI_1 i) (hw _ (fun x hx => by rw [pk_un (by omega)]; exact h x hx)))⟩))
theorem cc_Pstep {k i : Nat} {w6 : Nat → Int32} (hk : k < 4) (hi : i < 5) (hP : cc_P k i a1 a2 a3 a4 a5 a6 a7 a8 a9) (h6 : ∀ x, (x < i * 4 * 6 ∨ i * 4 * 6 + 6 ≤ x) → w6 x = a6 x) :
    cc_P k (i + 1) a1 a2 a3 (upd (upd a4 (i * 4 + k) (-1)) (i * 4 + k) (nI (i * 4))) (upd a5 (i * 4 + k) (a3 k)) w6 (upd a7 (i * 4) 0) (upd a8 (i * 4) (cc_sm w6 (upd a7 (i * 4) 0) (i * 4) 6)) (upd a9 (i * 4) 1) := by
  obtain ⟨h1, h2, h4, h5, h9, hs⟩ := hP
  refine ⟨h1, h2, ?_, ?_, ?_, ?_⟩
  · intro s j hs hj
    by_cases e : s * 4 + j = i * 4 + k
    · have e1 : s = i := by omega
      have e2 : j = k := by omega
      subst e1 e2
      rw [pk_us, if_pos ⟨rfl, by omega⟩]
    · rw [pk_un e, pk_un e, h4 s j hs hj]
      by_cases g : j = k ∧ s < i
      · rw [if_pos g, if_pos ⟨g.1, by omega⟩]
      · rw [if_neg g, if_neg (by omega)]
  · intro s hs'
    by_cases e : s = i
    · rw [e, pk_us]
    · rw [pk_un (by omega)]
      exact h5 s (by omega)
  · intro s hs'
    by_cases e : s = i
    · rw [e, pk_us, if_pos (by omega)]
    · rw [pk_un (by omega), h9 s hs']
      by_cases g : s < i
      · rw [if_pos g, if_pos (by omega)]
      · rw [if_neg g, if_neg (by omega)]
  · intro s hs'
    by_cases e : s = i
    · rw [e, pk_us]
    · rw [pk_un (show s * 4 ≠ i * 4 by omega), cc_sm_eq (a6 := a6) (a7 := a7) (pk_un (by omega)) (fun y hy => h6 _ (by omega)) 6 (Nat.le_refl 6)]
      exact hs s (by omega)
end
theorem cc_50 {post : Int32 → St2 → Prop} {k n : Nat} {lv : Int32} (hk : k < 4) (hn : n ≤ 3)
    (H : ∀ a1 a2 a3 a4 a5 a6 a7 a8 a9, cc_P k n a1 a2 a3 a4 a5 a6 a7 a8 a9 → (∀ s, s < n → a7 (s * 4) = 0) → post (nI n) (nI n, lv, a1, a2, a3, a4, a5, a6, a7, a8, a9)) :
    ∀ (d i : Nat) (x2 : Int32) (a1 a2 a3 a4 a5 a6 a7 a8 a9 : Nat → Int32), i + d = n → x2 = nI (32 - 2 ^ i) → cc_P k i a1 a2 a3 a4 a5 a6 a7 a8 a9 → (∀ s, s < i → a7 (s * 4) = 0) → wX_create_50 post (nI k) (d + 1) x2 (nI i) (nI i) (nI n) lv a1 a2 a3 a4 a5 a6 a7 a8 a9 := by
  intro d
  induction d with
  | zero =>
    intro i x2 a1 a2 a3 a4 a5 a6 a7 a8 a9 hd hx hP h7
    have e : i = n := by omega
    subst e
    exact pk_le i i (fun _ => H _ _ _ _ _ _ _ _ _ hP h7) (fun z => absurd z (by omega))
  | succ d ih =>
    intro i x2 a1 a2 a3 a4 a5 a6 a7 a8 a9 hd hx hP h7
    subst hx
    have h9 : a9 (i * 4) = 0 := by
      rw [hP.2.2.2.2.1 i (by omega)]
      exact if_neg (by omega)
    refine pk_le n i (fun z => absurd z (by omega)) (fun _ => br_f (cc_lfne i (by omega)) (cc_first (m := i) (by omega) (cc_lfbit i (by omega)) (fun s hs1 hs2 p hp => cc_load (fun _ => false) (fun j hj p' _ p0 => cc_cu0 hs2 hj (cc_Pn hs2 hj (by omega) hP) (p0 rfl)) (by rw [cc_ld0]; exact hp)) (nm_r (cc_lfnext i (by omega)) (cc_nr (by omega) hk (cc_Pn (by omega) hk (by omega) hP) h9 (cc_91 (b := i * 4) (by omega) (fun w6 h6 => ?_))))))
    rw [nI_1]
    refine ih (i + 1) _ _ _ _ _ _ _ _ _ _ (by omega) rfl (cc_Pstep hk (by omega) hP h6) (fun s hs => ?_)
    by_cases e : s = i
    · rw [e, pk_us]
    · rw [pk_un (by omega)]
      exact h7 s (by omega)
section
variable {c lv : Int32} {a1 a2 a3 a4 a5 a6 a7 a8 a9 : Nat → Int32}
theorem cc_createB {post : Int32 → St2 → Prop} {x : Int32} (h : cc_bd 4 x) (H : post (-1) (c, lv, a1, a2, a3, a4, a5, a6, a7, a8, a9)) : wpX_create post (c, lv, a1, a2, a3, a4, a5, a6, a7, a8, a9) x := by
  unfold wpX_create
  exact cc_bfB h (br_f (by decide) H)
theorem cc_create {post : Int32 → St2 → Prop} {k n : Nat} (hk : k < 4) (hn : n ≤ 3) (h1 : ∀ s, s < 5 → a1 s = 1) (h2 : ∀ j, j < 4 → a2 j = 0) (h4 : ∀ i, i < 20 → a4 i = -1) (h9 : ∀ i, i < 20 → a9 i = 0)
    (H : ∀ lv a1 a2 a3 a4 a5 a6 a7 a8 a9, cc_P k n a1 a2 a3 a4 a5 a6 a7 a8 a9 → (∀ s, s < n → a7 (s * 4) = 0) → post (nI n) (nI n, lv, a1, a2, a3, a4, a5, a6, a7, a8, a9)) : wpX_create post (nI n, lv, a1, a2, a3, a4, a5, a6, a7, a8, a9) (nI k) := by
  unfold wpX_create
  refine cc_bfG hk (br_t rfl ⟨pk_in k 4 hk, br_t (by rw [cc_cl (by omega)]; exact h2 k hk) (cc_up h1 (br_f (by decide) ⟨pk_in k 4 hk, nm_r (e' := upd a2 k 1) (by rw [cc_cl (by omega)]) ?_⟩))⟩)
  unfold wpX_newVersion
  refine nm_e ⟨pk_in k 4 hk, nm_e ⟨n + 1, ?_⟩⟩
  refine cc_50 hk hn (H _) n 0 _ _ _ _ _ _ _ _ _ _ (by omega) rfl ⟨h1, ?_, ?_, ?_, ?_, ?_⟩ (fun s hs => absurd hs (by omega))
  · intro j hj
    by_cases e : j = k
    · rw [e, pk_us, if_pos rfl]
    · rw [pk_un e, if_neg e]
      exact h2 j hj
  · intro s j hs hj
    rw [if_neg (by omega)]
    exact h4 _ (by omega)
  · intro s hs
    exact absurd hs (by omega)
  · intro s hs
    rw [if_neg (by omega)]
    exact h9 _ (by omega)
  · intro s hs
    exact absurd hs (by omega)
end
end
section
section
variable {c lv : Int32} {a1 a2 a3 a4 a5 a6 a7 a8 a9 : Nat → Int32}
/-- a block's cells, length and check put anew -/
theorem cc_Pput {k n i : Nat} {w6 w7 : Nat → Int32} (hP : cc_P k n a1 a2 a3 a4 a5 a6 a7 a8 a9) (h6 : ∀ x, (x < i * 4 * 6 ∨ i * 4 * 6 + 6 ≤ x) → w6 x = a6 x) (h7 : ∀ x, x ≠ i * 4 → w7 x = a7 x) :
    cc_P k n a1 a2 a3 a4 a5 w6 w7 (upd a8 (i * 4) (cc_sm w6 w7 (i * 4) 6)) a9 := by
  obtain ⟨g1, g2, g4, g5, g9, gs⟩ := hP
  refine ⟨g1, g2, g4, g5, g9, ?_⟩
  intro s hs
  by_cases e : s = i
  · rw [e, pk_us]
  · rw [pk_un (show s * 4 ≠ i * 4 by omega), cc_sm_eq (a6 := a6) (a7 := a7) (h7 _ (by omega)) (fun y hy => h6 _ (by omega)) 6 (Nat.le_refl 6)]
    exact gs s hs
end
theorem cc_74 {post : Int32 → St2 → Prop} {k n q : Nat} {v c lv : Int32} (hk : k < 4) (hn : n ≤ 3) (hq : q < 6)
    (H : ∀ a1 a2 a3 a4 a5 a6 a7 a8 a9, cc_P k n a1 a2 a3 a4 a5 a6 a7 a8 a9 → (∀ s, s < n → a7 (s * 4) = nI (q + 1)) → post (nI n) (c, lv, a1, a2, a3, a4, a5, a6, a7, a8, a9)) :
    ∀ (d i : Nat) (a1 a2 a3 a4 a5 a6 a7 a8 a9 : Nat → Int32), i + d = 5 → cc_P k n a1 a2 a3 a4 a5 a6 a7 a8 a9 → (∀ s, s < n → a7 (s * 4) = if s < i then nI (q + 1) else 0) → wX_mutate_74 post (nI k) (nI q) v (nI (2 ^ n - 1)) (d + 1) (nI i) c lv a1 a2 a3 a4 a5 a6 a7 a8 a9 := by
  intro d
  induction d with
  | zero =>
    intro i a1 a2 a3 a4 a5 a6 a7 a8 a9 hd hP h7
    have e : i = 5 := by omega
    subst e
    refine pk_le 5 5 (fun _ => cc_bits ?_) (fun z => absurd z (by omega))
    rw [cc_btn n (by omega)]
    exact H _ _ _ _ _ _ _ _ _ hP (fun s hs => by rw [h7 s hs, if_pos (by omega)])
  | succ d ih =>
    intro i a1 a2 a3 a4 a5 a6 a7 a8 a9 hd hP h7
    refine pk_le 5 i (fun z => absurd z (by omega)) (fun _ => ?_)
    by_cases g : i < n
    · have e7 : a7 (nI (i * 4)).toNatClampNeg = nI 0 := by
        rw [cc_cl (by omega), h7 i g, if_neg (by omega)]
        rfl
      refine br_t ((cc_bitn n (by omega) i (by omega)).mpr g) (cc_ob (by omega) hk (b := i * 4) (by omega) (cc_P4 hk (by omega) g hP) (cc_P9 (by omega) g hP) ⟨cc_i6 (by omega) hq, nm_r (e' := upd a6 (i * 4 * 6 + q) v) (by rw [cc_c6 (by omega) hq]) ⟨pk_in (i * 4) 20 (by omega), pk_le (q + 1) 0 (fun z => absurd z (by omega)) (fun _ => ⟨pk_in (i * 4) 20 (by omega), nm_r (e' := upd a7 (i * 4) (nI (q + 1))) (by rw [cc_cl (by omega), nI_1]) ?_⟩) (nI_1 q) e7⟩⟩)
      unfold wX_mutate_136
      refine cc_sum (by omega) ⟨pk_in (i * 4) 20 (by omega), nm_r (e' := upd a8 (i * 4) (cc_sm (upd a6 (i * 4 * 6 + q) v) (upd a7 (i * 4) (nI (q + 1))) (i * 4) 6)) (by rw [cc_cl (by omega)]) (nm_r (nI_1 i) ?_)⟩
      refine ih (i + 1) _ _ _ _ _ _ _ _ _ (by omega) (cc_Pput hP (fun x hx => pk_un (by omega)) (fun x hx => pk_un hx)) (fun s hs => ?_)
      by_cases e : s = i
      · rw [e, pk_us, if_pos (by omega)]
      · rw [pk_un (by omega), h7 s hs]
        by_cases g2 : s < i
        · rw [if_pos g2, if_pos (by omega)]
        · rw [if_neg g2, if_neg (by omega)]
    · refine br_f (fun z => g ((cc_bitn n (by omega) i (by omega)).mp z)) (nm_r (nI_1 i) (ih (i + 1) _ _ _ _ _ _ _ _ _ (by omega) hP (fun s hs => ?_)))
      rw [h7 s hs, if_pos (by omega), if_pos (by omega)]
section
variable {c lv : Int32} {a1 a2 a3 a4 a5 a6 a7 a8 a9 : Nat → Int32}
theorem cc_P0 {k n : Nat} (hk : k < 4) (hn1 : 1 ≤ n) (hP : cc_P k n a1 a2 a3 a4 a5 a6 a7 a8 a9) : cc_C (c, lv, a1, a2, a3, a4, a5, a6, a7, a8, a9) 0 k true := cc_Pcur true hk (by omega) hk ⟨fun _ => ⟨rfl, by omega⟩, fun _ => rfl⟩ hP
theorem cc_writeB {post : Int32 → St2 → Prop} {x y v : Int32} (h : cc_bd 4 x) (H : post (-1) (c, lv, a1, a2, a3, a4, a5, a6, a7, a8, a9)) : wpX_write post (c, lv, a1, a2, a3, a4, a5, a6, a7, a8, a9) x y v := by
  unfold wpX_write
  exact cc_refB h (br_f (by decide) H)
theorem cc_writeC {post : Int32 → St2 → Prop} {k n : Nat} {y v : Int32} (hk : k < 4) (hn1 : 1 ≤ n) (hP : cc_P k n a1 a2 a3 a4 a5 a6 a7 a8 a9) (h : cc_bd 6 y) (H : post (-6) (c, lv, a1, a2, a3, a4, a5, a6, a7, a8, a9)) : wpX_write post (c, lv, a1, a2, a3, a4, a5, a6, a7, a8, a9) (nI k) y v := by
  unfold wpX_write
  exact cc_refG hk (hP.1 0 (by omega)) (cc_Pk hk hP) (cc_P0 hk hn1 hP) (br_t rfl (cc_v 6 (by omega) rfl (fun _ => H) (fun t ht e => absurd (e ▸ h) (cc_nb ht (by omega)))))
theorem cc_mutate {post : Int32 → St2 → Prop} {k n q : Nat} {v : Int32} (hk : k < 4) (hn1 : 1 ≤ n) (hn : n ≤ 3) (hq : q < 6) (hP : cc_P k n a1 a2 a3 a4 a5 a6 a7 a8 a9) (h7 : ∀ s, s < n → a7 (s * 4) = 0)
    (H : ∀ a1 a2 a3 a4 a5 a6 a7 a8 a9, cc_P k n a1 a2 a3 a4 a5 a6 a7 a8 a9 → (∀ s, s < n → a7 (s * 4) = nI (q + 1)) → post (nI n) (c, lv, a1, a2, a3, a4, a5, a6, a7, a8, a9)) : wpX_mutate post (c, lv, a1, a2, a3, a4, a5, a6, a7, a8, a9) (nI k) (nI q) v := by
  unfold wpX_mutate
  refine cc_cset (fun s => decide (s < n)) (fun s hs => cc_Pcur _ hk hs hk (by simp) hP) ?_
  rw [cc_msn n (by omega)]
  exact cc_up hP.1 (nm_r (cc_and31 n (by omega)) (br_t rfl ⟨6, cc_74 hk hn hq H 5 0 _ _ _ _ _ _ _ _ _ (by omega) hP (fun s hs => by rw [h7 s hs, if_neg (by omega)])⟩))
theorem cc_write {post : Int32 → St2 → Prop} {k n q : Nat} {v : Int32} (hk : k < 4) (hn1 : 1 ≤ n) (hn : n ≤ 3) (hq : q < 6) (hP : cc_P k n a1 a2 a3 a4 a5 a6 a7 a8 a9) (h7 : ∀ s, s < n → a7 (s * 4) = 0)
    (H : ∀ a1 a2 a3 a4 a5 a6 a7 a8 a9, cc_P k n a1 a2 a3 a4 a5 a6 a7 a8 a9 → (∀ s, s < n → a7 (s * 4) = nI (q + 1)) → post (nI n) (c, lv, a1, a2, a3, a4, a5, a6, a7, a8, a9)) : wpX_write post (c, lv, a1, a2, a3, a4, a5, a6, a7, a8, a9) (nI k) (nI q) v := by
  unfold wpX_write
  exact cc_refG hk (hP.1 0 (by omega)) (cc_Pk hk hP) (cc_P0 hk hn1 hP) (br_t rfl (cc_v 6 (by omega) rfl (fun z => absurd z (cc_nb hq (by omega))) (fun _ _ _ => cc_mutate hk hn1 hn hq hP h7 H)))
theorem cc_lengthB {post : Int32 → Prop} {x : Int32} (h : cc_bd 4 x) (H : post (-1)) : wpX_length post (c, lv, a1, a2, a3, a4, a5, a6, a7, a8, a9) x := by
  unfold wpX_length
  exact cc_refB h (br_f (by decide) H)
theorem cc_length {post : Int32 → Prop} {k n : Nat} (hk : k < 4) (hn1 : 1 ≤ n) (hP : cc_P k n a1 a2 a3 a4 a5 a6 a7 a8 a9) (H : post (a7 0)) : wpX_length post (c, lv, a1, a2, a3, a4, a5, a6, a7, a8, a9) (nI k) := by
  unfold wpX_length
  have e : ((0 : Int32) * 4 + nI k).toNatClampNeg = 0 * 4 + k := cc_c4 (s := 0) (by omega) hk
  have e4 : a4 (0 * 4 + k) = nI 0 := cc_P4 (s := 0) hk (by omega) (by omega) hP
  refine cc_refG hk (hP.1 0 (by omega)) (cc_Pk hk hP) (cc_P0 hk hn1 hP) (br_t rfl (cc_src (hP.1 0 (by omega)) (cc_P0 hk hn1 hP) ⟨cc_i4 (s := 0) (by omega) hk, ?_⟩))
  rw [e, e4]
  exact ⟨pk_in 0 20 (by omega), by rw [cc_cl (by omega)]; exact H⟩
/-! damage -/
theorem cc_dmS {post : Int32 → St2 → Prop} {x y : Int32} (h : cc_bd 5 x) (H : post (-1) (c, lv, a1, a2, a3, a4, a5, a6, a7, a8, a9)) : wpX_damage post (c, lv, a1, a2, a3, a4, a5, a6, a7, a8, a9) x y := by
  unfold wpX_damage
  exact cc_bsB h (br_f (by decide) H)
theorem cc_dmF {post : Int32 → St2 → Prop} {s : Nat} {y : Int32} (hs : s < 5) (h : cc_bd 4 y) (H : post (-1) (c, lv, a1, a2, a3, a4, a5, a6, a7, a8, a9)) : wpX_damage post (c, lv, a1, a2, a3, a4, a5, a6, a7, a8, a9) (nI s) y := by
  unfold wpX_damage
  exact cc_bsG hs (br_t rfl (cc_bfB h (br_f (by decide) H)))
theorem cc_dm3 {post : Int32 → St2 → Prop} {s j : Nat} (hs : s < 5) (hj : j < 4) (h : a2 j = 0) (H : post (-3) (c, lv, a1, a2, a3, a4, a5, a6, a7, a8, a9)) : wpX_damage post (c, lv, a1, a2, a3, a4, a5, a6, a7, a8, a9) (nI s) (nI j) := by
  unfold wpX_damage
  exact cc_bsG hs (br_t rfl (cc_bfG hj (br_t rfl ⟨pk_in j 4 hj, br_t (by rw [cc_cl (by omega)]; exact h) H⟩)))
theorem cc_dm0 {post : Int32 → St2 → Prop} {s j : Nat} (hs : s < 5) (hj : j < 4) (h : a2 j = 1) (hC : cc_C (c, lv, a1, a2, a3, a4, a5, a6, a7, a8, a9) s j false) (H : post 0 (c, lv, a1, a2, a3, a4, a5, a6, a7, a8, a9)) : wpX_damage post (c, lv, a1, a2, a3, a4, a5, a6, a7, a8, a9) (nI s) (nI j) := by
  unfold wpX_damage
  exact cc_bsG hs (br_t rfl (cc_bfG hj (br_t rfl ⟨pk_in j 4 hj, br_f (by rw [cc_cl (by omega), h]; decide) (hC _ (fun z => absurd z (by decide)) (fun _ => br_t rfl H))⟩)))
theorem cc_dm1 {post : Int32 → St2 → Prop} {s j b : Nat} (hs : s < 5) (hj : j < 4) (hb : b < 20) (h : a2 j = 1) (hC : cc_C (c, lv, a1, a2, a3, a4, a5, a6, a7, a8, a9) s j true) (h4 : a4 (s * 4 + j) = nI b) (h9 : a9 b = 1) (H : post 1 (c, lv, a1, a2, a3, a4, a5, upd a6 (b * 6) (a6 (b * 6) ^^^ 1), a7, a8, a9)) : wpX_damage post (c, lv, a1, a2, a3, a4, a5, a6, a7, a8, a9) (nI s) (nI j) := by
  unfold wpX_damage
  exact cc_bsG hs (br_t rfl (cc_bfG hj (br_t rfl ⟨pk_in j 4 hj, br_f (by rw [cc_cl (by omega), h]; decide) (hC _ (fun _ => br_f (by decide) (cc_ob hs hj hb h4 h9 ⟨pk_in (b * 6) 120 (by omega) (cc_y6 b), pk_in (b * 6) 120 (by omega) (cc_y6 b), nm_r (by rw [cc_y6, cc_cl (by omega)]) H⟩)) (fun z => absurd z (by decide)))⟩)))
/-- the damaged replica isn't current any more -/
theorem cc_Pdm {k n s j : Nat} (hk : k < 4) (hs : s < 5) (hm : s < n) (hj : j < 4) (hP : cc_P k n a1 a2 a3 a4 a5 a6 a7 a8 a9) : cc_C (c, lv, a1, a2, a3, a4, a5, upd a6 (s * 4 * 6) (a6 (s * 4 * 6) ^^^ 1), a7, a8, a9) s j false := by
  intro p p1 p0
  by_cases g : j = k
  · subst g
    exact cc_cu1 hs hj (b := s * 4) (by omega) (cc_P4 hk hs hm hP) (cc_Pk hk hP) (hP.2.2.2.1 s hm) (fun z => absurd (z.trans (hP.2.2.2.2.2 s hm).symm) (cc_flip 5)) (fun _ => p0 rfl)
  · exact cc_cu0 hs hj (cc_Pn hs hj (fun z => g z.1) hP) (p0 rfl)
end
end
section
section
variable {c lv : Int32} {a1 a2 a3 a4 a5 a6 a7 a8 a9 : Nat → Int32} {post : Int32 → St0 → Prop} {mc ms kc ks : Nat}
theorem cc_327 {z : Int32} (H : post 1 ()) : wL_lawOf_327 post mc ms z z kc ks := by
  unfold wL_lawOf_327
  exact br_t rfl H
/-! the last check: two snapshots -/
theorem cc_293T {k : Nat} {g z : Int32} (hk : k < 4) (h2 : ∀ j, j < 4 → a2 j = if j = k then 1 else 0) (H : post 1 ()) : wL_lawOf_293 post mc ms (nI k) g 1 z z kc ks c lv a1 a2 a3 a4 a5 a6 a7 a8 a9 := by
  unfold wL_lawOf_293
  have e2 : a2 k = 1 := by
    rw [h2 k hk]
    exact if_pos rfl
  refine br_t rfl ?_
  rcases cc_ix g (N := 4) (by omega) with hg | ⟨j, hj, rfl⟩
  · exact cc_snP hg (br_f (by decide) (cc_sn2 hk hk e2 e2 (br_f (by decide) (cc_327 H))))
  · by_cases e : j = k
    · subst e
      exact cc_sn2 hk hk e2 e2 (br_f (by decide) (cc_sn2 hk hk e2 e2 (br_f (by decide) (cc_327 H))))
    · exact cc_sn3 hj hk (by rw [h2 j hj]; exact if_neg e) (br_f (by decide) (cc_sn2 hk hk e2 e2 (br_f (by decide) (cc_327 H))))
theorem cc_293N {f g z : Int32} (hf : cc_bd 4 f) (H : post 1 ()) : wL_lawOf_293 post mc ms f g 0 z z kc ks c lv a1 a2 a3 a4 a5 a6 a7 a8 a9 := by
  unfold wL_lawOf_293
  exact br_t rfl (cc_snQ hf (br_f (by decide) (cc_snQ hf (br_t rfl (cc_327 H)))))
/-! loseDisk -/
theorem cc_250S {k : Nat} {s g x7 x12 z : Int32} (hk : k < 4) (h2 : ∀ j, j < 4 → a2 j = if j = k then 1 else 0) (hs : cc_bd 5 s) (H : post 1 ()) : wL_lawOf_250 post mc ms (nI k) s g x7 1 0 x12 z z kc ks c lv a1 a2 a3 a4 a5 a6 a7 a8 a9 := by
  unfold wL_lawOf_250
  exact br_t rfl (cc_loseB hs (br_t rfl (cc_293T hk h2 H)))
theorem cc_250T {k n t : Nat} {g x12 z : Int32} (q : Bool) (hk : k < 4) (hn : n ≤ 3) (h2 : ∀ j, j < 4 → a2 j = if j = k then 1 else 0) (ht : t < 5) (h4 : cc_B a4) (hC : ∀ j, j < 4 → cc_C (c, lv, a1, a2, a3, a4, a5, a6, a7, a8, a9) t j (decide (j = k) && q)) (hq : q = true ↔ (t < n ∧ x12 = 0)) (H : post 1 ()) : wL_lawOf_250 post mc ms (nI k) (nI t) g (nI n) 1 1 x12 z z kc ks c lv a1 a2 a3 a4 a5 a6 a7 a8 a9 := by
  unfold wL_lawOf_250
  refine br_t rfl (cc_lose ht (fun j => decide (j = k) && q) hC h4 (fun w4 w9 => ?_))
  rw [cc_ldk q k hk]
  have F : q = false → ∀ A : Prop, wL_lawOf_293 post mc ms (nI k) g 1 0 (nI (if q = true then 1 else 0)) kc ks c lv a1 a2 a3 w4 a5 a6 a7 a8 w9 := by
    intro e _
    subst e
    exact cc_293T hk h2 H
  refine br_f (by decide) (br_f (by decide) (pk_le n t (fun y => ?_) (fun y => br_c (fun e => ?_) (fun e => ?_))))
  · unfold wL_lawOf_292
    refine F ?_ True
    cases q with
    | false => rfl
    | true => exact absurd (hq.mp rfl).1 (by omega)
  · have hq' : q = true := hq.mpr ⟨y, e⟩
    subst hq'
    exact cc_293T hk h2 H
  · unfold wL_lawOf_292
    refine F ?_ True
    cases q with
    | false => rfl
    | true => exact absurd (hq.mp rfl).2 e
theorem cc_250N {f s g x7 x10 x12 z : Int32} (hf : cc_bd 4 f) (h4 : ∀ i, i < 20 → a4 i = -1) (hs : (cc_bd 5 s ∧ x10 = 0) ∨ ∃ t : Nat, t < 5 ∧ s = nI t ∧ x10 = 1) (H : post 1 ()) : wL_lawOf_250 post mc ms f s g x7 0 x10 x12 z z kc ks c lv a1 a2 a3 a4 a5 a6 a7 a8 a9 := by
  unfold wL_lawOf_250
  rcases hs with ⟨hs, rfl⟩ | ⟨t, ht, rfl, rfl⟩
  · exact br_t rfl (cc_loseB hs (br_t rfl (cc_293N hf H)))
  · refine br_t rfl (cc_lose ht (fun _ => false) (fun j hj p _ p0 => cc_cu0 ht hj (h4 _ (by omega)) (p0 rfl)) (fun i hi => Or.inl (h4 i hi)) (fun w4 w9 => ?_))
    rw [cc_ld0]
    refine br_f (by decide) (br_t rfl ?_)
    unfold wL_lawOf_292
    exact cc_293N hf H
/-! damage -/
theorem cc_203T {k n : Nat} {s g x10 x11 z : Int32} (hk : k < 4) (hn : n ≤ 3) (hP : cc_P k n a1 a2 a3 a4 a5 a6 a7 a8 a9) (hs : (cc_bd 5 s ∧ x10 = 0) ∨ ∃ t : Nat, t < 5 ∧ s = nI t ∧ x10 = 1) (hg : (cc_bd 4 g ∧ x11 = 0) ∨ ∃ j : Nat, j < 4 ∧ g = nI j ∧ x11 = 1) (hz : (g = nI k ∧ z = 1) ∨ (¬ g = nI k ∧ z = 0)) (H : post 1 ()) : wL_lawOf_203 post mc ms (nI k) s g (nI n) 1 x10 x11 z kc ks c lv a1 a2 a3 a4 a5 a6 a7 a8 a9 := by
  unfold wL_lawOf_203
  rcases hs with ⟨hs, rfl⟩ | ⟨t, ht, rfl, rfl⟩
  · refine cc_dmS hs (br_t rfl ?_)
    unfold wL_lawOf_224
    exact cc_250S hk hP.2.1 hs H
  · rcases hg with ⟨hg, rfl⟩ | ⟨j, hj, rfl, rfl⟩
    · have hz0 : z = 0 := by
        rcases hz with ⟨e, _⟩ | ⟨_, e⟩
        · exact absurd (e ▸ hg) (cc_nb hk (by omega))
        · exact e
      subst hz0
      refine cc_dmF ht hg (br_f (by decide) (br_t rfl ?_))
      unfold wL_lawOf_224
      exact cc_250T (decide (t < n)) hk hn hP.2.1 ht (cc_PB hP) (fun j hj => cc_Pcur _ hk ht hj (by simp) hP) (by simp) H
    · rcases hz with ⟨e, rfl⟩ | ⟨e, rfl⟩
      · have ej : j = k := (nI_eq (by omega) (by omega)).mp e
        subst ej
        by_cases g2 : t < n
        · refine cc_dm1 ht hk (b := t * 4) (by omega) (cc_Pk hk hP) (cc_Pcur true hk ht hk ⟨fun _ => ⟨rfl, g2⟩, fun _ => rfl⟩ hP) (cc_P4 hk ht g2 hP) (cc_P9 ht g2 hP) (br_f (by decide) (br_f (by decide) (br_f (by decide) (pk_le n t (fun y => absurd y (by omega)) (fun y => ?_)))))
          exact cc_250T false hk hn hP.2.1 ht (cc_PB hP) (fun i hi => by rw [Bool.and_false]; exact cc_Pdm hk ht g2 hi hP) (by simp) H
        · refine cc_dm0 ht hk (cc_Pk hk hP) (cc_Pcur false hk ht hk (by simp; omega) hP) (br_f (by decide) (br_f (by decide) (br_f (by decide) (pk_le n t (fun y => ?_) (fun y => absurd y (by omega))))))
          exact cc_250T false hk hn hP.2.1 ht (cc_PB hP) (fun i hi => by rw [Bool.and_false]; exact cc_Pcur false hk ht hi (by simp; omega) hP) (by simp) H
      · have ej : ¬ j = k := fun y => e (by rw [y])
        refine cc_dm3 ht hj (by rw [hP.2.1 j hj]; exact if_neg ej) (br_f (by decide) (br_f (by decide) (br_t rfl ?_)))
        exact cc_250T (decide (t < n)) hk hn hP.2.1 ht (cc_PB hP) (fun i hi => cc_Pcur _ hk ht hi (by simp) hP) (by simp) H
theorem cc_203N {f s g x7 x10 x11 : Int32} (hf : cc_bd 4 f) (h2 : ∀ j, j < 4 → a2 j = 0) (h4 : ∀ i, i < 20 → a4 i = -1) (hs : (cc_bd 5 s ∧ x10 = 0) ∨ ∃ t : Nat, t < 5 ∧ s = nI t ∧ x10 = 1) (hg : (cc_bd 4 g ∧ x11 = 0) ∨ ∃ j : Nat, j < 4 ∧ g = nI j ∧ x11 = 1) (H : post 1 ()) : wL_lawOf_203 post mc ms f s g x7 0 x10 x11 0 kc ks c lv a1 a2 a3 a4 a5 a6 a7 a8 a9 := by
  unfold wL_lawOf_203
  have hs' := hs
  rcases hs with ⟨hs, rfl⟩ | ⟨t, ht, rfl, rfl⟩
  · refine cc_dmS hs (br_t rfl ?_)
    unfold wL_lawOf_224
    exact cc_250N hf h4 hs' H
  · rcases hg with ⟨hg, rfl⟩ | ⟨j, hj, rfl, rfl⟩
    · refine cc_dmF ht hg (br_f (by decide) (br_t rfl ?_))
      unfold wL_lawOf_224
      exact cc_250N hf h4 hs' H
    · exact cc_dm3 ht hj (h2 j hj) (br_f (by decide) (br_f (by decide) (br_t rfl (cc_250N hf h4 hs' H))))
/-! the law's flags -/
theorem cc_146 {x1 s g x7 x8 z : Int32} (H : ∀ x10 x11 : Int32, ((cc_bd 5 s ∧ x10 = 0) ∨ ∃ t : Nat, t < 5 ∧ s = nI t ∧ x10 = 1) → ((cc_bd 4 g ∧ x11 = 0) ∨ ∃ j : Nat, j < 4 ∧ g = nI j ∧ x11 = 1) → wL_lawOf_185 post mc ms x1 s g x7 x8 x10 x11 kc ks c lv a1 a2 a3 a4 a5 a6 a7 a8 a9) : wL_lawOf_146 post mc ms x1 s g x7 x8 z z kc ks c lv a1 a2 a3 a4 a5 a6 a7 a8 a9 := by
  have H2 : ∀ x10 : Int32, ((cc_bd 5 s ∧ x10 = 0) ∨ ∃ t : Nat, t < 5 ∧ s = nI t ∧ x10 = 1) → wL_lawOf_167 post mc ms x1 s g x7 x8 x10 kc ks c lv a1 a2 a3 a4 a5 a6 a7 a8 a9 := by
    intro x10 h10
    unfold wL_lawOf_167
    refine cc_w 3 (by omega) rfl (fun hb => ?_) (fun t ht e => H x10 1 h10 (Or.inr ⟨t, ht, e, rfl⟩))
    unfold wL_lawOf_184
    exact H x10 0 h10 (Or.inl ⟨hb, rfl⟩)
  unfold wL_lawOf_146
  refine br_t rfl (cc_w 4 (by omega) rfl (fun hb => ?_) (fun t ht e => H2 1 (Or.inr ⟨t, ht, e, rfl⟩)))
  unfold wL_lawOf_166
  exact H2 0 (Or.inl ⟨hb, rfl⟩)
theorem cc_146T {k n : Nat} {s g z : Int32} (hk : k < 4) (hn : n ≤ 3) (hP : cc_P k n a1 a2 a3 a4 a5 a6 a7 a8 a9) (H : post 1 ()) : wL_lawOf_146 post mc ms (nI k) s g (nI n) 1 z z kc ks c lv a1 a2 a3 a4 a5 a6 a7 a8 a9 := by
  refine cc_146 (fun x10 x11 hs hg => ?_)
  unfold wL_lawOf_185
  refine br_f (by decide) (br_c (fun e => cc_203T hk hn hP hs hg (Or.inl ⟨e, rfl⟩) H) (fun e => ?_))
  unfold wL_lawOf_202
  exact cc_203T hk hn hP hs hg (Or.inr ⟨e, rfl⟩) H
theorem cc_146N {f s g x7 z : Int32} (hf : cc_bd 4 f) (h2 : ∀ j, j < 4 → a2 j = 0) (h4 : ∀ i, i < 20 → a4 i = -1) (H : post 1 ()) : wL_lawOf_146 post mc ms f s g x7 0 z z kc ks c lv a1 a2 a3 a4 a5 a6 a7 a8 a9 := by
  refine cc_146 (fun x10 x11 hs hg => ?_)
  unfold wL_lawOf_185
  refine br_t rfl ?_
  unfold wL_lawOf_202
  exact cc_203N hf h2 h4 hs hg H
/-! create, write, length -/
theorem cc_61N {f y v s g x7 x9 : Int32} (hf : cc_bd 4 f) (h2 : ∀ j, j < 4 → a2 j = 0) (h4 : ∀ i, i < 20 → a4 i = -1) (H : post 1 ()) : wL_lawOf_61 post mc ms f y v s g x7 0 x9 kc ks c lv a1 a2 a3 a4 a5 a6 a7 a8 a9 := by
  unfold wL_lawOf_61
  refine cc_createB hf (br_t rfl ?_)
  unfold wL_lawOf_80
  refine br_t rfl (cc_writeB hf (br_t rfl ?_))
  unfold wL_lawOf_114
  exact br_t rfl (cc_lengthB hf (br_t rfl (cc_146N hf h2 h4 H)))
theorem cc_61T {k n : Nat} {y v s g x9 : Int32} (hk : k < 4) (hn1 : 1 ≤ n) (hn : n ≤ 3) (h1 : ∀ s, s < 5 → a1 s = 1) (h2 : ∀ j, j < 4 → a2 j = 0) (h4 : ∀ i, i < 20 → a4 i = -1) (h9 : ∀ i, i < 20 → a9 i = 0) (hy : (cc_bd 6 y ∧ x9 = 0) ∨ ∃ q : Nat, q < 6 ∧ y = nI q ∧ x9 = 1) (H : post 1 ()) : wL_lawOf_61 post mc ms (nI k) y v s g (nI n) 1 x9 kc ks (nI n) lv a1 a2 a3 a4 a5 a6 a7 a8 a9 := by
  unfold wL_lawOf_61
  refine cc_create hk hn h1 h2 h4 h9 (fun lv a1 a2 a3 a4 a5 a6 a7 a8 a9 hP h7 => br_f (by decide) ?_)
  unfold wL_lawOf_80
  rcases hy with ⟨hy, rfl⟩ | ⟨q, hq, rfl, rfl⟩
  · refine br_t rfl (cc_writeC hk hn1 hP hy (br_f (by decide) (br_t rfl ?_)))
    unfold wL_lawOf_114
    refine br_t rfl (cc_length hk hn1 hP ?_)
    rw [show a7 0 = 0 from h7 0 (by omega)]
    exact br_f (by decide) (br_t rfl (cc_146T hk hn hP H))
  · refine br_t rfl (cc_write hk hn1 hn hq hP h7 (fun a1 a2 a3 a4 a5 a6 a7 a8 a9 hP h7 => br_f (by decide) (br_f (by decide) ?_)))
    unfold wL_lawOf_114
    refine br_t rfl (cc_length hk hn1 hP ?_)
    rw [show a7 0 = nI (q + 1) from h7 0 (by omega), nI_1]
    exact br_f (by decide) (br_f (by decide) (cc_146T hk hn hP H))
theorem cc_29 {n : Nat} {f y v s g : Int32} (hn1 : 1 ≤ n) (hn : n ≤ 3) (h1 : ∀ s, s < 5 → a1 s = 1) (h2 : ∀ j, j < 4 → a2 j = 0) (h4 : ∀ i, i < 20 → a4 i = -1) (h9 : ∀ i, i < 20 → a9 i = 0) (H : post 1 ()) : wL_lawOf_29 post mc ms f y v s g (nI n) kc ks (nI n) lv a1 a2 a3 a4 a5 a6 a7 a8 a9 := by
  unfold wL_lawOf_29
  refine cc_w 3 (by omega) rfl (fun hf => ?_) (fun k hk e => ?_)
  · unfold wL_lawOf_44 wL_lawOf_45
    refine cc_w 5 (by omega) rfl (fun hb => ?_) (fun q hq e => cc_61N hf h2 h4 H)
    unfold wL_lawOf_60
    exact cc_61N hf h2 h4 H
  · subst e
    unfold wL_lawOf_45
    refine cc_w 5 (by omega) rfl (fun hb => ?_) (fun q hq e => cc_61T hk hn1 hn h1 h2 h4 h9 (Or.inr ⟨q, hq, e, rfl⟩) H)
    unfold wL_lawOf_60
    exact cc_61T hk hn1 hn h1 h2 h4 h9 (Or.inl ⟨hb, rfl⟩) H
/-! the constructor -/
theorem cc_fill {t : Nat → Int32} {i : Nat} {x : Int32} (h : ∀ j, j < i → t j = x) : ∀ j, j < i + 1 → upd t i x j = x := by
  intro j hj
  by_cases e : j = i
  · rw [e, pk_us]
  · rw [pk_un e]
    exact h j (by omega)
theorem cc_116 {p : St2 → Prop} (H : ∀ w4, (∀ i, i < 20 → w4 i = -1) → p (c, lv, a1, a2, a3, w4, a5, a6, a7, a8, a9)) : ∃ n, wX_init_116 p mc ms kc ks c lv n 0 a1 a2 a3 a4 a5 a6 a7 a8 a9 :=
  pk_loop (fun n i t => wX_init_116 p mc ms kc ks c lv n (nI i) a1 a2 a3 t a5 a6 a7 a8 a9) (fun i t => ∀ j, j < i → t j = -1) 20 0 a4 (by omega) (fun j hj => absurd hj (by omega))
    (fun n t h => pk_le 20 20 (fun _ => H t h) (fun z => absurd z (by omega)))
    (fun n i t hi h hw => pk_le 20 i (fun z => absurd z (by omega)) (fun _ => ⟨pk_in i 20 hi, nm_r (e' := upd t i (-1)) (by rw [cc_cl (by omega)]) (nm_r (nI_1 i) (hw _ (cc_fill h)))⟩))
theorem cc_96 {p : St2 → Prop} (H : ∀ w1 w4, (∀ i, i < 5 → w1 i = 1) → (∀ i, i < 20 → w4 i = -1) → p (c, lv, w1, a2, a3, w4, a5, a6, a7, a8, a9)) : ∃ n, wX_init_96 p mc ms kc ks c lv n 0 a1 a2 a3 a4 a5 a6 a7 a8 a9 :=
  pk_loop (fun n i t => wX_init_96 p mc ms kc ks c lv n (nI i) t a2 a3 a4 a5 a6 a7 a8 a9) (fun i t => ∀ j, j < i → t j = 1) 5 0 a1 (by omega) (fun j hj => absurd hj (by omega))
    (fun n t h => pk_le 5 5 (fun _ => cc_116 (fun w4 h4 => H t w4 h h4)) (fun z => absurd z (by omega)))
    (fun n i t hi h hw => pk_le 5 i (fun z => absurd z (by omega)) (fun _ => ⟨pk_in i 5 hi, nm_r (e' := upd t i 1) (by rw [cc_cl (by omega)]) (nm_r (nI_1 i) (hw _ (cc_fill h)))⟩))
def cc_cp (x : Int32) (n : Nat) : Prop := (¬ 1 ≤ x ∧ n = 1) ∨ (1 ≤ x ∧ x ≤ 3 ∧ x = nI n) ∨ (1 ≤ x ∧ ¬ x ≤ 3 ∧ n = 3)
theorem cc_cpx (x : Int32) : ∃ n, 1 ≤ n ∧ n ≤ 3 ∧ cc_cp x n := by
  by_cases h1 : 1 ≤ x
  · by_cases h3 : x ≤ 3
    · obtain ⟨j, hj, rfl⟩ := nI_of2 (x := x) (M := 3) (n := 3) (by decide) (Int32.not_lt.mpr (Int32.le_trans (by decide) h1)) h3
      refine ⟨j, ?_, hj, Or.inr (Or.inl ⟨h1, h3, rfl⟩)⟩
      rcases Nat.eq_zero_or_pos j with e | e
      · subst e
        exact absurd h1 (by decide)
      · exact e
    · exact ⟨3, by omega, by omega, Or.inr (Or.inr ⟨h1, h3, rfl⟩)⟩
  · exact ⟨1, by omega, by omega, Or.inl ⟨h1, rfl⟩⟩
theorem cc_init {p : St2 → Prop} {x : Int32} {n : Nat} (hx : cc_cp x n) (H : ∀ w1 w4, (∀ i, i < 5 → w1 i = 1) → (∀ i, i < 20 → w4 i = -1) → p (nI n, 0, w1, (fun _ => 0), (fun _ => 0), w4, (fun _ => 0), (fun _ => 0), (fun _ => 0), (fun _ => 0), (fun _ => 0))) : wpX_init p 9 233 (0, 0) x := by
  unfold wpX_init
  refine ⟨by omega, by omega, by omega, by omega, by omega, by omega, by omega, by omega, by omega, by omega, by omega, by omega, by omega, by omega, by omega, by omega, by omega, by omega, ?_⟩
  unfold wX_init_82
  rcases hx with ⟨h1, rfl⟩ | ⟨h1, h3, rfl⟩ | ⟨h1, h3, rfl⟩
  · exact br_f h1 (br_t (by decide) (cc_96 H))
  · exact br_t h1 (br_t h3 (cc_96 H))
  · exact br_t h1 (br_f h3 (cc_96 H))
theorem cc_lawOf {p0 p1 p2 p3 p4 p5 : Int32} (H : post 1 ()) : wpL_lawOf post 10 244 () p0 p1 p2 p3 p4 p5 := by
  obtain ⟨n, hn1, hn, hx⟩ := cc_cpx p0
  unfold wpL_lawOf
  refine ⟨by omega, by omega, 9, 233, by omega, by omega, cc_init hx (fun w1 w4 h1 h4 => ?_)⟩
  have F : wL_lawOf_29 post 10 244 p1 p2 p3 p4 p5 (nI n) (1 + 9) (11 + 233) (nI n) 0 w1 (fun _ => 0) (fun _ => 0) w4 (fun _ => 0) (fun _ => 0) (fun _ => 0) (fun _ => 0) (fun _ => 0) := cc_29 hn1 hn h1 (fun _ _ => rfl) h4 (fun _ _ => rfl) H
  rcases hx with ⟨h1, rfl⟩ | ⟨h1, h3, rfl⟩ | ⟨h1, h3, rfl⟩
  · exact br_f h1 F
  · exact br_t h1 (br_t h3 F)
  · exact br_t h1 (br_f h3 F)
end
theorem cc_cell {post : Int32 → Prop} {L : Nat} {xs : Nat → Int32} {i : Nat} (hL : L ≤ 6) (hi : i < 6) (H : ∀ x, post x) : wpL_cellAt post L xs () (nI i) := by
  unfold wpL_cellAt
  exact pk_le L i (fun _ => H _) (fun z => ⟨pk_in i L z, H _⟩)
theorem i_vc (xs : Nat → Int32) (L : Nat) (hL : L ≤ 6) : wpL_law (fun r => r = 1) L xs := by
  unfold wpL_law
  exact cc_cell (i := 0) hL (by omega) (fun _ => cc_cell (i := 1) hL (by omega) (fun _ => cc_cell (i := 2) hL (by omega) (fun _ => cc_cell (i := 3) hL (by omega) (fun _ => cc_cell (i := 4) hL (by omega) (fun _ => cc_cell (i := 5) hL (by omega) (fun _ => ⟨10, 244, by omega, by omega, cc_lawOf rfl⟩))))))
end
