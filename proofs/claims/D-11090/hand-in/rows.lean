section
/-! words of one, two and three letters -/
theorem zt_lt {y : Int32} {a b : Nat} (hy : y = nI b) (ha : a < 2 ^ 31) (hb : b < 2 ^ 31) : nI a < y ↔ a < b := by
  rw [hy]
  exact nI_ltI ha hb
theorem zt_le {y : Int32} {a b : Nat} (hy : y = nI b) (ha : a < 2 ^ 31) (hb : b < 2 ^ 31) : y ≤ nI a ↔ b ≤ a := by
  rw [hy]
  exact nI_leI hb ha
theorem zt_ne {b : Nat} (hb : b < 2 ^ 31) : ¬ nI b = -1 := by
  intro h
  have h2 := congrArg Int32.toInt h
  rw [nI_toInt hb] at h2
  have h3 : ((-1 : Int32)).toInt = -1 := by decide
  omega
theorem zt_sz1 {post : Int32 → Prop} {w : Nat} (h1 : 8 ≤ w) (h2 : w < 64) (hp : post 1) : wpX_sizeOf post () (nI w) := by
  refine ⟨2, br_f (by decide) (br_f (fun z => ?_) (nm_r (e' := 1) (by decide) (br_f (by decide) (br_t ?_ hp))))⟩
  · exact absurd ((zt_lt (b := 8) (by decide +kernel) (by omega) (by omega)).mp z) (by omega)
  · exact (zt_lt (b := 64) (by decide +kernel) (by omega) (by omega)).mpr h2
theorem zt_sz2 {post : Int32 → Prop} {w : Nat} (h1 : 64 ≤ w) (h2 : w < 512) (hp : post 2) : wpX_sizeOf post () (nI w) := by
  refine ⟨3, br_f (by decide) (br_f (fun z => ?_) (nm_r (e' := 1) (by decide) (br_f (by decide) (br_f (fun z => ?_) (nm_r (e' := 2) (by decide) (br_f (by decide) (br_t ?_ hp)))))))⟩
  · exact absurd ((zt_lt (b := 8) (by decide +kernel) (by omega) (by omega)).mp z) (by omega)
  · exact absurd ((zt_lt (b := 64) (by decide +kernel) (by omega) (by omega)).mp z) (by omega)
  · exact (zt_lt (b := 512) (by decide +kernel) (by omega) (by omega)).mpr h2
theorem zt_sz3 {post : Int32 → Prop} {w : Nat} (h1 : 512 ≤ w) (h2 : w < 4096) (hp : post 3) : wpX_sizeOf post () (nI w) := by
  refine ⟨4, br_f (by decide) (br_f (fun z => ?_) (nm_r (e' := 1) (by decide) (br_f (by decide) (br_f (fun z => ?_) (nm_r (e' := 2) (by decide) (br_f (by decide) (br_f (fun z => ?_) (nm_r (e' := 3) (by decide) (br_f (by decide) (br_t ?_ hp))))))))))⟩
  · exact absurd ((zt_lt (b := 8) (by decide +kernel) (by omega) (by omega)).mp z) (by omega)
  · exact absurd ((zt_lt (b := 64) (by decide +kernel) (by omega) (by omega)).mp z) (by omega)
  · exact absurd ((zt_lt (b := 512) (by decide +kernel) (by omega) (by omega)).mp z) (by omega)
  · exact (zt_lt (b := 4096) (by decide +kernel) (by omega) (by omega)).mpr h2
theorem zt_row1 {post : Int32 → Prop} {w : Nat} (h1 : 8 ≤ w) (h2 : w < 16) (hp : post 1) : wpX_isRow post () (nI w) := by
  unfold wpX_isRow
  refine zt_sz1 h1 (by omega) (br_f (by decide) (br_f (fun z => ?_) (br_f (fun z => ?_) hp)))
  · exact absurd ((zt_lt (b := 8) (by decide +kernel) (by omega) (by omega)).mp z) (by omega)
  · exact absurd ((zt_le (b := 16) (by decide +kernel) (by omega) (by omega)).mp z) (by omega)
theorem zt_row2 {post : Int32 → Prop} {w : Nat} (h1 : 64 ≤ w) (h2 : w < 128) (hp : post 1) : wpX_isRow post () (nI w) := by
  unfold wpX_isRow
  refine zt_sz2 h1 (by omega) (br_f (by decide) (br_f (fun z => ?_) (br_f (fun z => ?_) hp)))
  · exact absurd ((zt_lt (b := 64) (by decide +kernel) (by omega) (by omega)).mp z) (by omega)
  · exact absurd ((zt_le (b := 128) (by decide +kernel) (by omega) (by omega)).mp z) (by omega)
theorem zt_row3 {post : Int32 → Prop} {w : Nat} (h1 : 512 ≤ w) (h2 : w < 1024) (hp : post 1) : wpX_isRow post () (nI w) := by
  unfold wpX_isRow
  refine zt_sz3 h1 (by omega) (br_f (by decide) (br_f (fun z => ?_) (br_f (fun z => ?_) hp)))
  · exact absurd ((zt_lt (b := 512) (by decide +kernel) (by omega) (by omega)).mp z) (by omega)
  · exact absurd ((zt_le (b := 1024) (by decide +kernel) (by omega) (by omega)).mp z) (by omega)
theorem zt_gt1 {w : Nat} (h : 1 < w) (h2 : w < 2 ^ 31) : ¬ nI w ≤ 1 := fun z => absurd ((nI_leI (b := 1) h2 (by omega)).mp z) (by omega)
theorem zt_word1 {post : Int32 → Prop} {w : Nat} (h1 : 8 ≤ w) (h2 : w < 16) (hp : post 1) : wpX_isWord post () (nI w) := by
  unfold wpX_isWord
  exact br_f (zt_gt1 (by omega) (by omega)) (zt_row1 h1 h2 (br_f (by decide) hp))
theorem zt_word2 {post : Int32 → Prop} {w : Nat} (h1 : 64 ≤ w) (h2 : w < 128) (hp : post 1) : wpX_isWord post () (nI w) := by
  unfold wpX_isWord
  exact br_f (zt_gt1 (by omega) (by omega)) (zt_row2 h1 h2 (br_f (by decide) hp))
theorem zt_word3 {post : Int32 → Prop} {w : Nat} (h1 : 512 ≤ w) (h2 : w < 1024) (hp : post 1) : wpX_isWord post () (nI w) := by
  unfold wpX_isWord
  exact br_f (zt_gt1 (by omega) (by omega)) (zt_row3 h1 h2 (br_f (by decide) hp))
/-- a word of one slice -/
def zt_one (X : Int32) (s : Nat) : Prop :=
  (∀ ψ : Int32 → Prop, ψ 1 → wpX_isWord ψ () X) ∧ (∀ ψ : Int32 → Prop, ψ 1 → wpX_layersOf ψ () X) ∧ (∀ ψ : Int32 → Prop, ψ (nI s) → wpX_sliceOf ψ () X 0)
/-- a word of two slices -/
def zt_two (X : Int32) (s t : Nat) : Prop :=
  (∀ ψ : Int32 → Prop, ψ 1 → wpX_isWord ψ () X) ∧ (∀ ψ : Int32 → Prop, ψ 2 → wpX_layersOf ψ () X) ∧ (∀ ψ : Int32 → Prop, ψ (nI s) → wpX_sliceOf ψ () X 0) ∧ (∀ ψ : Int32 → Prop, ψ (nI t) → wpX_sliceOf ψ () X 1)
theorem zt_la1 {post : Int32 → Prop} {w : Nat} (h1 : 8 ≤ w) (h2 : w < 64) (hp : post 1) : wpX_layersOf post () (nI w) := by
  unfold wpX_layersOf
  exact zt_sz1 h1 h2 (ek_v (P := post) (by decide +kernel) hp)
theorem zt_la2 {post : Int32 → Prop} {w : Nat} (h1 : 64 ≤ w) (h2 : w < 512) (hp : post 1) : wpX_layersOf post () (nI w) := by
  unfold wpX_layersOf
  exact zt_sz2 h1 h2 (ek_v (P := post) (by decide +kernel) hp)
theorem zt_la3 {post : Int32 → Prop} {w : Nat} (h1 : 512 ≤ w) (h2 : w < 4096) (hp : post 2) : wpX_layersOf post () (nI w) := by
  unfold wpX_layersOf
  exact zt_sz3 h1 h2 (ek_v (P := post) (by decide +kernel) hp)
theorem zt_g1 : ∀ c, c < 8 → 9 * (((nI (8 + c) >>> ((3 * (((1 : Int32) - 1) - (2 * 0))) &&& 31)) &&& 7) + 1) = nI (9 * (c + 1)) := by decide +kernel
theorem zt_g2 : ∀ a, a < 8 → ∀ b, b < 8 → ((9 * (((nI (64 + 8 * a + b) >>> ((3 * (((2 : Int32) - 1) - (2 * 0))) &&& 31)) &&& 7) + 1)) + ((nI (64 + 8 * a + b) >>> ((3 * (((2 : Int32) - 2) - (2 * 0))) &&& 31)) &&& 7)) + 1 = nI (9 * (a + 1) + b + 1) := by decide +kernel
theorem zt_g3 : ∀ p, p < 8 → ∀ q, q < 8 → ∀ r, r < 8 → ((9 * (((nI (512 + 64 * p + 8 * q + r) >>> ((3 * (((3 : Int32) - 1) - (2 * 0))) &&& 31)) &&& 7) + 1)) + ((nI (512 + 64 * p + 8 * q + r) >>> ((3 * (((3 : Int32) - 2) - (2 * 0))) &&& 31)) &&& 7)) + 1 = nI (9 * (p + 1) + q + 1) := by decide +kernel
theorem zt_g4 : ∀ p, p < 8 → ∀ q, q < 8 → ∀ r, r < 8 → 9 * (((nI (512 + 64 * p + 8 * q + r) >>> ((3 * (((3 : Int32) - 1) - (2 * 1))) &&& 31)) &&& 7) + 1) = nI (9 * (r + 1)) := by decide +kernel
theorem zt_one1 {c : Nat} (hc : c < 8) : zt_one (nI (8 + c)) (9 * (c + 1)) := by
  refine ⟨fun ψ h => zt_word1 (by omega) (by omega) h, fun ψ h => zt_la1 (by omega) (by omega) h, fun ψ h => ?_⟩
  unfold wpX_sliceOf
  exact zt_sz1 (by omega) (by omega) (nm_e (br_f (by decide) (ek_v (P := ψ) (zt_g1 c hc) h)))
theorem zt_one2 {a b : Nat} (ha : a < 8) (hb : b < 8) : zt_one (nI (64 + 8 * a + b)) (9 * (a + 1) + b + 1) := by
  refine ⟨fun ψ h => zt_word2 (by omega) (by omega) h, fun ψ h => zt_la2 (by omega) (by omega) h, fun ψ h => ?_⟩
  unfold wpX_sliceOf
  exact zt_sz2 (by omega) (by omega) (nm_e (br_t (by decide) (nm_e (ek_v (P := ψ) (zt_g2 a ha b hb) h))))
theorem zt_two3 {p q r : Nat} (hp : p < 8) (hq : q < 8) (hr : r < 8) : zt_two (nI (512 + 64 * p + 8 * q + r)) (9 * (p + 1) + q + 1) (9 * (r + 1)) := by
  refine ⟨fun ψ h => zt_word3 (by omega) (by omega) h, fun ψ h => zt_la3 (by omega) (by omega) h, fun ψ h => ?_, fun ψ h => ?_⟩
  · unfold wpX_sliceOf
    exact zt_sz3 (by omega) (by omega) (nm_e (br_t (by decide) (nm_e (ek_v (P := ψ) (zt_g3 p hp q hq r hr) h))))
  · unfold wpX_sliceOf
    exact zt_sz3 (by omega) (by omega) (nm_e (br_f (by decide) (ek_v (P := ψ) (zt_g4 p hp q hq r hr) h)))
theorem zt_sh {n m : Nat} {s : Int32} (k : Nat) (hn : n < 2 ^ 31) (hs : (s.toBitVec.smod 32).toNat = k) (hm : n / 2 ^ k = m) : nI n >>> s = nI m := by
  rw [pk_shrN hn s k hs, hm]
/-- begins(top, ..) -/
theorem zt_bg1 {post : Int32 → Prop} {c : Nat} (hc : c < 8) (hp : post 1) : wpX_begins post () (nI (8 + c)) (nI (8 + c)) := by
  unfold wpX_begins
  exact zt_sz1 (by omega) (by omega) (zt_sz1 (by omega) (by omega) (nm_r (e' := 0) (by decide) (br_f (by decide) (br_t (zt_sh 0 (by omega) (by decide +kernel) (by omega)) hp))))
theorem zt_bg2 {post : Int32 → Prop} {a b c : Nat} (ha : a < 8) (hb : b < 8) (hc : c < 8) (hp : post (if a = c then 1 else 0)) : wpX_begins post () (nI (8 + c)) (nI (64 + 8 * a + b)) := by
  unfold wpX_begins
  refine zt_sz2 (by omega) (by omega) (zt_sz1 (by omega) (by omega) (nm_r (e' := 1) (by decide) (br_f (by decide) (pk_eq (8 + a) (8 + c) (fun z => ?_) (fun z => ?_) (zt_sh 3 (by omega) (by decide +kernel) (by omega))))))
  · rw [if_pos (by omega)] at hp
    exact hp
  · rw [if_neg (by omega)] at hp
    exact hp
theorem zt_bg3 {post : Int32 → Prop} {p q r c : Nat} (h1 : p < 8) (hq : q < 8) (hr : r < 8) (hc : c < 8) (hp : post (if p = c then 1 else 0)) : wpX_begins post () (nI (8 + c)) (nI (512 + 64 * p + 8 * q + r)) := by
  unfold wpX_begins
  refine zt_sz3 (by omega) (by omega) (zt_sz1 (by omega) (by omega) (nm_r (e' := 2) (by decide) (br_f (by decide) (pk_eq (8 + p) (8 + c) (fun z => ?_) (fun z => ?_) (zt_sh 6 (by omega) (by decide +kernel) (by omega))))))
  · rw [if_pos (by omega)] at hp
    exact hp
  · rw [if_neg (by omega)] at hp
    exact hp
/-- comesBefore(a word of one slice, a word of two) -/
theorem zt_cb {post : Int32 → Prop} {X Y : Int32} {s t t' : Nat} (hX : zt_one X s) (hY : zt_two Y t t') (hs : s < 1000) (ht : t < 1000) (hp : post (if s ≤ t then 1 else 0)) : wpX_comesBefore post () X Y := by
  obtain ⟨_, x2, x3⟩ := hX
  obtain ⟨_, y2, y3, _⟩ := hY
  unfold wpX_comesBefore
  refine x2 _ (y2 _ (br_f (by decide) (x2 _ ⟨2, br_f (by decide) (x3 _ (y3 _ (fun x4 e4 => ?_)))⟩)))
  have ei : x4.toInt = (s : Int) - t := by
    rw [e4]
    exact pk_sub_toInt (by omega) (by omega)
  refine br_c (fun z => ?_) (fun z => ?_)
  · have e0 : s = t := by
      rw [z] at ei
      have h0 : (0 : Int32).toInt = 0 := by decide
      omega
    rw [if_pos (by omega)] at hp
    exact nm_r (e' := 1) (by decide) (br_t (by decide) (x2 _ (y2 _ (br_f (by decide) hp))))
  · have h0 : (0 : Int32).toInt = 0 := by decide
    refine br_c (fun g => ?_) (fun g => ?_)
    · rw [Int32.le_iff_toInt_le, h0, ei] at g
      have hn : s ≠ t := fun e => z (Int32.toInt_inj.mp (by rw [ei, h0]; omega))
      rw [if_neg (by omega)] at hp
      exact hp
    · rw [Int32.le_iff_toInt_le, h0, ei] at g
      rw [if_pos (by omega)] at hp
      exact hp
end
section
/-! nodes: nodeFor, lesserIn, entryFor, find, takeNode, insert -/
section
variable {f0 f1 f2 f3 f4 g0 g1 g2 g3 g4 k0 k1 k2 k3 k4 : Int32} {a1 a2 a3 a4 a5 a6 a7 a8 a9 a10 a11 a12 b1 b2 b3 b4 b5 b6 b7 b8 b9 b10 b11 b12 d1 d2 d3 d4 d5 d6 d7 d8 d9 d10 d11 d12 : Nat → Int32}
theorem zt_son {post : Int32 → Prop} {b n : Nat} (hb : b < 122) (h : a1 b &&& 15 = nI n) (hp : post (nI n)) : wpX_sizeOfNode post (f0, f1, f2, f3, f4, a1, a2, a3, a4, a5, a6, a7, a8, a9, a10, a11, a12) (nI b) := by
  refine ⟨pk_in b 122 hb, ?_⟩
  rw [nI_clamp (by omega), h]
  exact hp
theorem zt_ea {post : Int32 → Prop} {b i c : Nat} (hb : b < 122) (h : (a1 b >>> (((4 * nI i) + 4) &&& 31)) &&& 15 = nI c) (hp : post (nI (4 * b + c))) : wpX_entryAt post (f0, f1, f2, f3, f4, a1, a2, a3, a4, a5, a6, a7, a8, a9, a10, a11, a12) (nI b) (nI i) := by
  refine ⟨pk_in b 122 hb, ?_⟩
  rw [nI_clamp (by omega), h]
  have e : 4 * nI b + nI c = nI (4 * b + c) := by
    show nI 4 * nI b + nI c = _
    rw [pk_mul, nI_add]
  rw [e]
  exact hp
theorem zt_nf {post : Int32 → Prop} {b : Nat} {x : Int32} (hb : b < 122) (h2 : a2 b = -1) (hp : post (nI b)) : wpX_nodeFor post (f0, f1, f2, f3, f4, a1, a2, a3, a4, a5, a6, a7, a8, a9, a10, a11, a12) (nI b) x :=
  ⟨pk_in b 122 hb, nm_r (e' := -1) (by rw [nI_clamp (by omega)]; exact h2) ⟨1, br_t rfl hp⟩⟩
/-- the picture of a node: n cells in use, cell c i at place i, with slice s i -/
def zt_nd (a1 a3 : Nat → Int32) (b n : Nat) (c s : Nat → Nat) : Prop :=
  b < 122 ∧ n ≤ 4 ∧ a1 b &&& 15 = nI n ∧ ∀ i, i < n → c i < 4 ∧ ((a1 b >>> (((4 * nI i) + 4) &&& 31)) &&& 15 = nI (c i)) ∧ a3 (4 * b + c i) = nI (s i) ∧ s i < 1000
theorem zt_les {post : Int32 → Prop} {b n k x : Nat} {c s : Nat → Nat} (h : zt_nd a1 a3 b n c s) (hk : k ≤ n) (hl : ∀ i, i < k → s i < x) (hg : k < n → x ≤ s k) (hx : x < 1000) (hp : post (nI k)) :
    wpX_lesserIn post (f0, f1, f2, f3, f4, a1, a2, a3, a4, a5, a6, a7, a8, a9, a10, a11, a12) (nI b) (nI x) := by
  obtain ⟨hb, hn, h1, h3⟩ := h
  refine pk_loop (σ := Unit) (fun m i _ => wX_lesserIn_2 post (nI b) (nI x) f0 f1 f2 f3 f4 a1 a2 a3 a4 a5 a6 a7 a8 a9 a10 a11 a12 m (nI i)) (fun _ _ => True) k 0 () (by omega) trivial ?_ ?_
  · intro m _ _
    show wX_lesserIn_2 post (nI b) (nI x) f0 f1 f2 f3 f4 a1 a2 a3 a4 a5 a6 a7 a8 a9 a10 a11 a12 (m + 1) (nI k)
    unfold wX_lesserIn_2
    refine zt_son hb h1 (pk_le n k (fun _ => hp) (fun z => ?_))
    obtain ⟨c1, c2, c3, c4⟩ := h3 k z
    refine zt_ea hb c2 ⟨pk_in (4 * b + c k) 488 (by omega), br_t ?_ hp⟩
    rw [nI_clamp (by omega), c3]
    exact nI_le (hg z) (by omega)
  · intro m i _ hi _ hw
    show wX_lesserIn_2 post (nI b) (nI x) f0 f1 f2 f3 f4 a1 a2 a3 a4 a5 a6 a7 a8 a9 a10 a11 a12 (m + 1) (nI i)
    unfold wX_lesserIn_2
    refine zt_son hb h1 (pk_le n i (fun z => absurd z (by omega)) (fun z => ?_))
    obtain ⟨c1, c2, c3, c4⟩ := h3 i z
    refine zt_ea hb c2 ⟨pk_in (4 * b + c i) 488 (by omega), br_f ?_ (nm_r (nI_1 i) (hw () trivial))⟩
    rw [nI_clamp (by omega), c3]
    exact nI_ge (hl i hi) (by omega)
/-- entryFor(head, x) answers R -/
def zt_E (u : St2) (head : Int32) (x : Nat) (R : Int32) : Prop := ∀ ψ : Int32 → Prop, ψ R → wpX_entryFor ψ u head (nI x)
theorem zt_E0 {x : Nat} : zt_E (f0, f1, f2, f3, f4, a1, a2, a3, a4, a5, a6, a7, a8, a9, a10, a11, a12) (-1) x (-1) := fun ψ h => br_t rfl h
theorem zt_Ef {b n k : Nat} {c s : Nat → Nat} (h : zt_nd a1 a3 b n c s) (h2 : a2 b = -1) (hk : k < n) (hl : ∀ i, i < k → s i < s k) : zt_E (f0, f1, f2, f3, f4, a1, a2, a3, a4, a5, a6, a7, a8, a9, a10, a11, a12) (nI b) (s k) (nI (4 * b + c k)) := by
  intro ψ hp
  have hh := h
  obtain ⟨hb, hn, h1, h3⟩ := hh
  obtain ⟨c1, c2, c3, c4⟩ := h3 k hk
  refine br_f (zt_ne (by omega)) (zt_nf hb h2 (zt_les h (by omega) hl (fun _ => Nat.le_refl _) c4 (zt_son hb h1 (br_f (nI_ge hk (by omega)) (zt_ea hb c2 ⟨pk_in (4 * b + c k) 488 (by omega), br_t ?_ (zt_ea hb c2 hp)⟩)))))
  rw [nI_clamp (by omega)]
  exact c3
theorem zt_En {b n x : Nat} {c s : Nat → Nat} (h : zt_nd a1 a3 b n c s) (h2 : a2 b = -1) (hx : x < 1000) (hl : ∀ i, i < n → s i ≠ x) : zt_E (f0, f1, f2, f3, f4, a1, a2, a3, a4, a5, a6, a7, a8, a9, a10, a11, a12) (nI b) x (-1) := by
  intro ψ hp
  have hh := h
  obtain ⟨hb, hn, h1, h3⟩ := hh
  obtain ⟨k, q1, q2⟩ := pk_least (fun k => k = n ∨ x ≤ s k) ⟨n, Or.inl rfl⟩
  have hk : k ≤ n := by
    rcases Nat.lt_or_ge n k with z | z
    · exact absurd (Or.inl rfl) (q2 n z)
    · exact z
  have hl2 : ∀ i, i < k → s i < x := fun i hi => by
    have := q2 i hi
    have h4 : ¬ x ≤ s i := fun z => this (Or.inr z)
    omega
  have hg : k < n → x ≤ s k := fun z => by
    rcases q1 with e | e
    · omega
    · exact e
  refine br_f (zt_ne (by omega)) (zt_nf hb h2 (zt_les h hk hl2 hg hx (zt_son hb h1 (pk_le n k (fun _ => hp) (fun z => ?_)))))
  obtain ⟨c1, c2, c3, c4⟩ := h3 k z
  refine zt_ea hb c2 ⟨pk_in (4 * b + c k) 488 (by omega), br_f ?_ hp⟩
  rw [nI_clamp (by omega), c3]
  exact fun e => hl k z ((nI_eq (by omega) (by omega)).mp e)
theorem zt_find1 {post : Int32 → Prop} {X R : Int32} {s : Nat} (hX : zt_one X s) (hE : zt_E (f0, f1, f2, f3, f4, a1, a2, a3, a4, a5, a6, a7, a8, a9, a10, a11, a12) f0 s R) (hR : R = -1 ∨ vp_in R 488) (hp : post R) : wpX_find post (f0, f1, f2, f3, f4, a1, a2, a3, a4, a5, a6, a7, a8, a9, a10, a11, a12) X := by
  unfold wpX_find
  refine hX.2.1 _ ⟨2, br_f (by decide) (hX.2.2 _ (hE _ ?_))⟩
  exact br_c (fun z => z ▸ hp) (fun z => ⟨hR.resolve_left z, nm_e (nm_r (e' := 1) (by decide) (br_t (by decide) hp))⟩)
theorem zt_find2n {post : Int32 → Prop} {X : Int32} {s t : Nat} (hX : zt_two X s t) (hE : zt_E (f0, f1, f2, f3, f4, a1, a2, a3, a4, a5, a6, a7, a8, a9, a10, a11, a12) f0 s (-1)) (hp : post (-1)) : wpX_find post (f0, f1, f2, f3, f4, a1, a2, a3, a4, a5, a6, a7, a8, a9, a10, a11, a12) X := by
  unfold wpX_find
  exact hX.2.1 _ ⟨1, br_f (by decide) (hX.2.2.1 _ (hE _ (br_t rfl hp)))⟩
theorem zt_find2 {post : Int32 → Prop} {X R : Int32} {s t e : Nat} (hX : zt_two X s t) (he : e < 488) (hE : zt_E (f0, f1, f2, f3, f4, a1, a2, a3, a4, a5, a6, a7, a8, a9, a10, a11, a12) f0 s (nI e)) (hE2 : zt_E (f0, f1, f2, f3, f4, a1, a2, a3, a4, a5, a6, a7, a8, a9, a10, a11, a12) (a6 e) t R) (hR : R = -1 ∨ vp_in R 488) (hp : post R) : wpX_find post (f0, f1, f2, f3, f4, a1, a2, a3, a4, a5, a6, a7, a8, a9, a10, a11, a12) X := by
  unfold wpX_find
  refine hX.2.1 _ ⟨3, br_f (by decide) (hX.2.2.1 _ (hE _ (br_f (zt_ne (by omega)) ⟨pk_in e 488 he, nm_r (e' := a6 e) (by rw [nI_clamp (by omega)]) (nm_r (e' := 1) (by decide) (br_f (by decide) (hX.2.2.2 _ (hE2 _ ?_))))⟩)))⟩
  exact br_c (fun z => z ▸ hp) (fun z => ⟨hR.resolve_left z, nm_e (nm_r (e' := 2) (by decide) (br_t (by decide) hp))⟩)
theorem zt_tn {post : Int32 → St2 → Prop} {m b : Nat} (hm : m < 122) (hb : b < 122) (h7 : a7 m = nI b) (hp : post (nI b) (f0, nI m, f2, f3, f4, upd a1 b 205056, upd a2 b (-1), a3, a4, a5, a6, a7, a8, a9, a10, a11, a12)) : wpX_takeNode post (f0, nI (m + 1), f2, f3, f4, a1, a2, a3, a4, a5, a6, a7, a8, a9, a10, a11, a12) := by
  unfold wpX_takeNode
  exact nm_r (e' := nI m) (nI_pred m) ⟨pk_in m 122 hm, nm_r (e' := nI b) (by rw [nI_clamp (by omega)]; exact h7) ⟨pk_in b 122 hb, nm_r (e' := upd a1 b 205056) (by rw [nI_clamp (by omega)]) ⟨pk_in b 122 hb, nm_r (e' := upd a2 b (-1)) (by rw [nI_clamp (by omega)]) hp⟩⟩⟩
/-- the new order word of an insert -/
def zt_iw (o n k cl : Int32) : Int32 :=
  (((((o >>> ((4 : Int32) &&& 31)) &&& (((1 : Int32) <<< ((4 * k) &&& 31)) - 1)) ||| (cl <<< ((4 * k) &&& 31))) ||| ((((o >>> ((4 : Int32) &&& 31)) >>> ((4 * k) &&& 31)) &&& (((1 : Int32) <<< ((4 * (n - k)) &&& 31)) - 1)) <<< (((4 * k) + 4) &&& 31)) ||| (((o >>> ((4 : Int32) &&& 31)) >>> (((4 * n) + 4) &&& 31)) <<< (((4 * n) + 4) &&& 31))) <<< ((4 : Int32) &&& 31)) ||| (n + 1)
theorem zt_ins {post : Int32 → St2 → Prop} {b n k x cl : Nat} {c s : Nat → Nat} {W : Int32} (h : zt_nd a1 a3 b n c s) (h2 : a2 b = -1) (hn : n < 4) (hk : k ≤ n) (hl : ∀ i, i < k → s i < x) (hg : k < n → x ≤ s k) (hx : x < 1000)
    (hcl : cl < 4) (hc : (a1 b >>> (((4 * nI n) + 4) &&& 31)) &&& 15 = nI cl) (hW : zt_iw (a1 b) (nI n) (nI k) (nI cl) = W)
    (hp : post (nI (4 * b + cl)) (f0, f1, f2, f3, f4, upd a1 b W, a2, upd a3 (4 * b + cl) (nI x), upd a4 (4 * b + cl) 0, upd a5 (4 * b + cl) 0, upd a6 (4 * b + cl) (-1), a7, a8, a9, a10, a11, a12)) : wpX_insert post (f0, f1, f2, f3, f4, a1, a2, a3, a4, a5, a6, a7, a8, a9, a10, a11, a12) (nI b) (nI x) := by
  have hh := h
  obtain ⟨hb, _, h1, h3⟩ := hh
  have e4 : 4 * nI b + nI cl = nI (4 * b + cl) := by
    show nI 4 * nI b + nI cl = _
    rw [pk_mul, nI_add]
  have hi : vp_in (nI (4 * b + cl)) 488 := pk_in (4 * b + cl) 488 (by omega)
  have hb' : vp_in (nI b) 122 := pk_in b 122 hb
  have ec : (nI (4 * b + cl)).toNatClampNeg = 4 * b + cl := nI_clamp (by omega)
  have eb : (nI b).toNatClampNeg = b := nI_clamp (by omega)
  unfold wpX_insert
  refine zt_nf hb h2 (zt_son hb h1 (br_f (fun z => ?_) ?_))
  · exact absurd ((nI_eq (b := 4) (by omega) (by omega)).mp z) (by omega)
  unfold wX_insert_28
  refine zt_les h hk hl hg hx (zt_son hb h1 ⟨hb', nm_r (e' := nI cl) (by rw [eb]; exact hc) ⟨hb', nm_r (e' := a1 b >>> ((4 : Int32) &&& 31)) (by rw [eb]) (nm_e (nm_e (nm_e (nm_e ⟨hb', nm_r (e' := upd a1 b W) (by rw [eb]; exact congrArg (upd a1 b) hW) (nm_r (e' := nI (4 * b + cl)) e4 ⟨hi, ?_⟩)⟩))))⟩⟩)
  exact nm_r (e' := upd a3 (4 * b + cl) (nI x)) (by rw [ec]) ⟨hi, nm_r (e' := upd a5 (4 * b + cl) 0) (by rw [ec]) ⟨hi, nm_r (e' := upd a4 (4 * b + cl) 0) (by rw [ec]) ⟨hi, nm_r (e' := upd a6 (4 * b + cl) (-1)) (by rw [ec]) hp⟩⟩⟩
end
end
section
/-! setHead, makePath, put -/
section
variable {f0 f1 f2 f3 f4 g0 g1 g2 g3 g4 k0 k1 k2 k3 k4 : Int32} {a1 a2 a3 a4 a5 a6 a7 a8 a9 a10 a11 a12 b1 b2 b3 b4 b5 b6 b7 b8 b9 b10 b11 b12 d1 d2 d3 d4 d5 d6 d7 d8 d9 d10 d11 d12 : Nat → Int32}
theorem zt_hd0 {post : St2 → Prop} {h : Int32} (hp : post (h, f1, f2, f3, f4, a1, a2, a3, a4, a5, a6, a7, a8, a9, a10, a11, a12)) : wpX_setHead post (f0, f1, f2, f3, f4, a1, a2, a3, a4, a5, a6, a7, a8, a9, a10, a11, a12) (-1) h := by
  unfold wpX_setHead
  exact br_t rfl hp
theorem zt_hd1 {post : St2 → Prop} {h : Int32} {e : Nat} (he : e < 488) (hp : post (f0, f1, f2, f3, f4, a1, a2, a3, a4, a5, upd a6 e h, a7, a8, a9, a10, a11, a12)) : wpX_setHead post (f0, f1, f2, f3, f4, a1, a2, a3, a4, a5, a6, a7, a8, a9, a10, a11, a12) (nI e) h := by
  unfold wpX_setHead
  exact br_f (zt_ne (by omega)) ⟨pk_in e 488 he, nm_r (e' := upd a6 e h) (by rw [nI_clamp (by omega)]) hp⟩
/-- a layer of makePath: the entry is there -/
theorem zt_mpF {post : Int32 → St2 → Prop} {J : Int32 → Int32 → Int32 → Int32 → Int32 → Int32 → Int32 → (Nat → Int32) → (Nat → Int32) → (Nat → Int32) → (Nat → Int32) → (Nat → Int32) → (Nat → Int32) → (Nat → Int32) → (Nat → Int32) → (Nat → Int32) → (Nat → Int32) → (Nat → Int32) → (Nat → Int32) → Prop} {x1 x2 x3 x4 x4' z0 : Int32} {x e : Nat} (h4 : x4 + 1 = x4') (he : e < 488) (hE : zt_E (f0, f1, f2, f3, f4, a1, a2, a3, a4, a5, a6, a7, a8, a9, a10, a11, a12) z0 x (nI e)) (hJ : J (nI e) x4' f0 f1 f2 f3 f4 a1 a2 a3 a4 a5 a6 a7 a8 a9 a10 a11 a12) : wX_makePath_42 post J x1 x2 x3 x4 (nI x) z0 f0 f1 f2 f3 f4 a1 a2 a3 a4 a5 a6 a7 a8 a9 a10 a11 a12 := by
  unfold wX_makePath_42
  exact hE _ (br_f (zt_ne (by omega)) (nm_r (e' := x4') h4 hJ))
/-- a layer of makePath: a new entry of a node with room -/
theorem zt_mpI {post : Int32 → St2 → Prop} {J : Int32 → Int32 → Int32 → Int32 → Int32 → Int32 → Int32 → (Nat → Int32) → (Nat → Int32) → (Nat → Int32) → (Nat → Int32) → (Nat → Int32) → (Nat → Int32) → (Nat → Int32) → (Nat → Int32) → (Nat → Int32) → (Nat → Int32) → (Nat → Int32) → (Nat → Int32) → Prop} {x1 x2 x3 x4 x4' : Int32} {b n k x cl : Nat} {c s : Nat → Nat} {W : Int32} (h4 : x4 + 1 = x4') (h : zt_nd a1 a3 b n c s) (h2 : a2 b = -1) (hn : n < 4) (hk : k ≤ n) (hl : ∀ i, i < k → s i < x) (hg : k < n → x < s k) (hm : ∀ i, i < n → s i ≠ x) (hx : x < 1000)
    (hcl : cl < 4) (hc : (a1 b >>> (((4 * nI n) + 4) &&& 31)) &&& 15 = nI cl) (hW : zt_iw (a1 b) (nI n) (nI k) (nI cl) = W)
    (hJ : J (nI (4 * b + cl)) x4' f0 f1 f2 f3 f4 (upd a1 b W) a2 (upd a3 (4 * b + cl) (nI x)) (upd a4 (4 * b + cl) 0) (upd a5 (4 * b + cl) 0) (upd a6 (4 * b + cl) (-1)) a7 a8 a9 a10 a11 a12) : wX_makePath_42 post J x1 x2 x3 x4 (nI x) (nI b) f0 f1 f2 f3 f4 a1 a2 a3 a4 a5 a6 a7 a8 a9 a10 a11 a12 := by
  have hE : zt_E (f0, f1, f2, f3, f4, a1, a2, a3, a4, a5, a6, a7, a8, a9, a10, a11, a12) (nI b) x (-1) := zt_En h h2 hx hm
  have hb := h.1
  unfold wX_makePath_42
  refine hE _ (br_t rfl (br_f (zt_ne (by omega)) ?_))
  unfold wX_makePath_79
  exact zt_ins h h2 hn hk hl (fun z => Nat.le_of_lt (hg z)) hx hcl hc hW (nm_r (e' := x4') h4 hJ)
/-- a layer of makePath: a new node, at the top -/
theorem zt_mpN0 {post : Int32 → St2 → Prop} {J : Int32 → Int32 → Int32 → Int32 → Int32 → Int32 → Int32 → (Nat → Int32) → (Nat → Int32) → (Nat → Int32) → (Nat → Int32) → (Nat → Int32) → (Nat → Int32) → (Nat → Int32) → (Nat → Int32) → (Nat → Int32) → (Nat → Int32) → (Nat → Int32) → (Nat → Int32) → Prop} {x1 x3 x4 x4' : Int32} {m b x : Nat} (h4 : x4 + 1 = x4') (hm : m < 122) (hb : b < 122) (h7 : a7 m = nI b) (hx : x < 1000)
    (hJ : J (nI (4 * b)) x4' (nI b) (nI m) f2 f3 f4 (upd (upd a1 b 205056) b 205057) (upd a2 b (-1)) (upd a3 (4 * b) (nI x)) (upd a4 (4 * b) 0) (upd a5 (4 * b) 0) (upd a6 (4 * b) (-1)) a7 a8 a9 a10 a11 a12) : wX_makePath_42 post J x1 (-1) x3 x4 (nI x) (-1) f0 (nI (m + 1)) f2 f3 f4 a1 a2 a3 a4 a5 a6 a7 a8 a9 a10 a11 a12 := by
  unfold wX_makePath_42
  refine zt_E0 _ (br_t rfl (br_t rfl (zt_tn hm hb h7 (zt_hd0 ?_))))
  unfold wX_makePath_79
  have e1 : upd a1 b 205056 b = 205056 := pk_us
  exact zt_ins (n := 0) (k := 0) (cl := 0) (c := fun _ => 0) (s := fun _ => 0) ⟨hb, by omega, by rw [e1]; decide +kernel, fun i hi => absurd hi (by omega)⟩ pk_us (by omega) (by omega) (fun i hi => absurd hi (by omega)) (fun z => absurd z (by omega)) hx (by omega) (by rw [e1]; decide +kernel) (by rw [e1]; decide +kernel) (nm_r (e' := x4') h4 hJ)
/-- a layer of makePath: a new node, below an entry -/
theorem zt_mpN1 {post : Int32 → St2 → Prop} {J : Int32 → Int32 → Int32 → Int32 → Int32 → Int32 → Int32 → (Nat → Int32) → (Nat → Int32) → (Nat → Int32) → (Nat → Int32) → (Nat → Int32) → (Nat → Int32) → (Nat → Int32) → (Nat → Int32) → (Nat → Int32) → (Nat → Int32) → (Nat → Int32) → (Nat → Int32) → Prop} {x1 x3 x4 x4' : Int32} {m b x e : Nat} (h4 : x4 + 1 = x4') (hm : m < 122) (hb : b < 122) (he : e < 488) (h7 : a7 m = nI b) (hx : x < 1000)
    (hJ : J (nI (4 * b)) x4' f0 (nI m) f2 f3 f4 (upd (upd a1 b 205056) b 205057) (upd a2 b (-1)) (upd a3 (4 * b) (nI x)) (upd a4 (4 * b) 0) (upd a5 (4 * b) 0) (upd (upd a6 e (nI b)) (4 * b) (-1)) a7 a8 a9 a10 a11 a12) : wX_makePath_42 post J x1 (nI e) x3 x4 (nI x) (-1) f0 (nI (m + 1)) f2 f3 f4 a1 a2 a3 a4 a5 a6 a7 a8 a9 a10 a11 a12 := by
  unfold wX_makePath_42
  refine zt_E0 _ (br_t rfl (br_t rfl (zt_tn hm hb h7 (zt_hd1 he ?_))))
  unfold wX_makePath_79
  have e1 : upd a1 b 205056 b = 205056 := pk_us
  exact zt_ins (n := 0) (k := 0) (cl := 0) (c := fun _ => 0) (s := fun _ => 0) ⟨hb, by omega, by rw [e1]; decide +kernel, fun i hi => absurd hi (by omega)⟩ pk_us (by omega) (by omega) (fun i hi => absurd hi (by omega)) (fun z => absurd z (by omega)) hx (by omega) (by rw [e1]; decide +kernel) (by rw [e1]; decide +kernel) (nm_r (e' := x4') h4 hJ)
theorem zt_mp1 {post : Int32 → St2 → Prop} {X : Int32} {s e : Nat} (hX : zt_one X s)
    (h1 : ∀ J : Int32 → Int32 → Int32 → Int32 → Int32 → Int32 → Int32 → (Nat → Int32) → (Nat → Int32) → (Nat → Int32) → (Nat → Int32) → (Nat → Int32) → (Nat → Int32) → (Nat → Int32) → (Nat → Int32) → (Nat → Int32) → (Nat → Int32) → (Nat → Int32) → (Nat → Int32) → Prop, J (nI e) 1 g0 g1 g2 g3 g4 b1 b2 b3 b4 b5 b6 b7 b8 b9 b10 b11 b12 → wX_makePath_42 post J X (-1) 1 0 (nI s) f0 f0 f1 f2 f3 f4 a1 a2 a3 a4 a5 a6 a7 a8 a9 a10 a11 a12) (hp : post (nI e) (g0, g1, g2, g3, g4, b1, b2, b3, b4, b5, b6, b7, b8, b9, b10, b11, b12)) : wpX_makePath post (f0, f1, f2, f3, f4, a1, a2, a3, a4, a5, a6, a7, a8, a9, a10, a11, a12) X := by
  unfold wpX_makePath
  refine hX.2.1 _ ⟨2, br_f (by decide) (hX.2.2 _ (br_t rfl (h1 _ ?_)))⟩
  exact br_t (by decide) hp
theorem zt_mp2 {post : Int32 → St2 → Prop} {X : Int32} {s t e e' : Nat} (hX : zt_two X s t) (he : e < 488)
    (h1 : ∀ J : Int32 → Int32 → Int32 → Int32 → Int32 → Int32 → Int32 → (Nat → Int32) → (Nat → Int32) → (Nat → Int32) → (Nat → Int32) → (Nat → Int32) → (Nat → Int32) → (Nat → Int32) → (Nat → Int32) → (Nat → Int32) → (Nat → Int32) → (Nat → Int32) → (Nat → Int32) → Prop, J (nI e) 1 g0 g1 g2 g3 g4 b1 b2 b3 b4 b5 b6 b7 b8 b9 b10 b11 b12 → wX_makePath_42 post J X (-1) 2 0 (nI s) f0 f0 f1 f2 f3 f4 a1 a2 a3 a4 a5 a6 a7 a8 a9 a10 a11 a12)
    (h2 : ∀ J : Int32 → Int32 → Int32 → Int32 → Int32 → Int32 → Int32 → (Nat → Int32) → (Nat → Int32) → (Nat → Int32) → (Nat → Int32) → (Nat → Int32) → (Nat → Int32) → (Nat → Int32) → (Nat → Int32) → (Nat → Int32) → (Nat → Int32) → (Nat → Int32) → (Nat → Int32) → Prop, J (nI e') 2 k0 k1 k2 k3 k4 d1 d2 d3 d4 d5 d6 d7 d8 d9 d10 d11 d12 → wX_makePath_42 post J X (nI e) 2 1 (nI t) (b6 e) g0 g1 g2 g3 g4 b1 b2 b3 b4 b5 b6 b7 b8 b9 b10 b11 b12) (hp : post (nI e') (k0, k1, k2, k3, k4, d1, d2, d3, d4, d5, d6, d7, d8, d9, d10, d11, d12)) : wpX_makePath post (f0, f1, f2, f3, f4, a1, a2, a3, a4, a5, a6, a7, a8, a9, a10, a11, a12) X := by
  unfold wpX_makePath
  refine hX.2.1 _ ⟨3, br_f (by decide) (hX.2.2.1 _ (br_t rfl (h1 _ ?_)))⟩
  refine br_f (by decide) (hX.2.2.2 _ (br_f (zt_ne (by omega)) ⟨pk_in e 488 he, ?_⟩))
  rw [nI_clamp (by omega)]
  refine h2 _ ?_
  exact br_t (by decide) hp
theorem zt_put {post : Int32 → St2 → Prop} {X val : Int32} {k e : Nat} (hw : ∀ ψ : Int32 → Prop, ψ 1 → wpX_isWord ψ () X) (hf : ∀ ψ : Int32 → Prop, ψ (-1) → wpX_find ψ (f0, f1, nI k, f3, f4, a1, a2, a3, a4, a5, a6, a7, a8, a9, a10, a11, a12) X) (hk : k < 40) (he : e < 488)
    (hM : ∀ ψ : Int32 → St2 → Prop, ψ (nI e) (g0, g1, nI k, g3, g4, b1, b2, b3, b4, b5, b6, b7, b8, b9, b10, b11, b12) → wpX_makePath ψ (f0, f1, nI k, f3, f4, a1, a2, a3, a4, a5, a6, a7, a8, a9, a10, a11, a12) X)
    (hp : post 1 (g0, g1, nI (k + 1), g3, 0, b1, b2, b3, upd b4 e val, upd b5 e 1, b6, b7, b8, b9, b10, b11, b12)) : wpX_put post (f0, f1, nI k, f3, f4, a1, a2, a3, a4, a5, a6, a7, a8, a9, a10, a11, a12) X val := by
  unfold wpX_put
  refine hw _ (br_f (by decide) (hf _ (br_t (by decide) ?_)))
  unfold wX_put_42
  refine br_f (fun z => absurd ((nI_eq (b := 40) (by omega) (by omega)).mp z) (by omega)) (hM _ ?_)
  have hi : vp_in (nI e) 488 := pk_in e 488 he
  have ec : (nI e).toNatClampNeg = e := nI_clamp (by omega)
  exact ⟨hi, nm_r (e' := upd b5 e 1) (by rw [ec]) ⟨hi, nm_r (e' := upd b4 e val) (by rw [ec]) (nm_r (e' := nI (k + 1)) (nI_1 k) hp)⟩⟩
end
end
section
/-! the three puts, by facts on single places of the arrays -/
def zt_f (x y z : Nat) : Nat → Nat
  | 0 => x
  | 1 => y
  | _ => z
abbrev zt_d1 (W : Int32) (c0 : Nat) : Prop := W &&& 15 = nI 1 ∧ c0 < 4 ∧ ((W >>> (((4 * nI 0) + 4) &&& 31)) &&& 15 = nI c0)
abbrev zt_d2 (W : Int32) (c0 c1 : Nat) : Prop := W &&& 15 = nI 2 ∧ c0 < 4 ∧ c1 < 4 ∧ ((W >>> (((4 * nI 0) + 4) &&& 31)) &&& 15 = nI c0) ∧ ((W >>> (((4 * nI 1) + 4) &&& 31)) &&& 15 = nI c1)
abbrev zt_d3 (W : Int32) (c0 c1 c2 : Nat) : Prop := W &&& 15 = nI 3 ∧ c0 < 4 ∧ c1 < 4 ∧ c2 < 4 ∧ ((W >>> (((4 * nI 0) + 4) &&& 31)) &&& 15 = nI c0) ∧ ((W >>> (((4 * nI 1) + 4) &&& 31)) &&& 15 = nI c1) ∧ ((W >>> (((4 * nI 2) + 4) &&& 31)) &&& 15 = nI c2)
section
variable {f0 f1 f2 f3 f4 g0 g1 g2 g3 g4 k0 k1 k2 k3 k4 : Int32} {a1 a2 a3 a4 a5 a6 a7 a8 a9 a10 a11 a12 b1 b2 b3 b4 b5 b6 b7 b8 b9 b10 b11 b12 d1 d2 d3 d4 d5 d6 d7 d8 d9 d10 d11 d12 : Nat → Int32}
theorem zt_nd1 {W : Int32} {b c0 s0 : Nat} (hb : b < 122) (hW : a1 b = W) (hd : zt_d1 W c0) (h0 : a3 (4 * b + c0) = nI s0) (g0 : s0 < 1000) : zt_nd a1 a3 b 1 (zt_f c0 0 0) (zt_f s0 0 0) := by
  obtain ⟨d0, d1, d2⟩ := hd
  subst hW
  exact ⟨hb, by omega, d0, lt_s lt_0 ⟨d1, d2, h0, g0⟩⟩
theorem zt_nd2 {W : Int32} {b c0 c1 s0 s1 : Nat} (hb : b < 122) (hW : a1 b = W) (hd : zt_d2 W c0 c1) (h0 : a3 (4 * b + c0) = nI s0) (h1 : a3 (4 * b + c1) = nI s1) (g0 : s0 < 1000) (g1 : s1 < 1000) : zt_nd a1 a3 b 2 (zt_f c0 c1 0) (zt_f s0 s1 0) := by
  obtain ⟨d0, d1, d2, d3, d4⟩ := hd
  subst hW
  exact ⟨hb, by omega, d0, lt_s (lt_s lt_0 ⟨d1, d3, h0, g0⟩) ⟨d2, d4, h1, g1⟩⟩
theorem zt_nd3 {W : Int32} {b c0 c1 c2 s0 s1 s2 : Nat} (hb : b < 122) (hW : a1 b = W) (hd : zt_d3 W c0 c1 c2) (h0 : a3 (4 * b + c0) = nI s0) (h1 : a3 (4 * b + c1) = nI s1) (h2 : a3 (4 * b + c2) = nI s2) (g0 : s0 < 1000) (g1 : s1 < 1000) (g2 : s2 < 1000) : zt_nd a1 a3 b 3 (zt_f c0 c1 c2) (zt_f s0 s1 s2) := by
  obtain ⟨d0, d1, d2, d3, d4, d5, d6⟩ := hd
  subst hW
  exact ⟨hb, by omega, d0, lt_s (lt_s (lt_s lt_0 ⟨d1, d4, h0, g0⟩) ⟨d2, d5, h1, g1⟩) ⟨d3, d6, h2, g2⟩⟩
/-- after put(u, 5) -/
def zt_F1 (a1 a2 a3 a4 a5 a6 : Nat → Int32) (s : Nat) : Prop := a1 0 = 205057 ∧ a2 0 = -1 ∧ a3 0 = nI s ∧ a4 0 = 5 ∧ a5 0 = 1 ∧ a6 0 = -1
/-- after put(v, val): the order word of node 0, the entry of v's first slice -/
def zt_F2 (a1 a2 a3 a4 a5 a6 : Nat → Int32) (W : Int32) (e su sv sw : Nat) (val : Int32) : Prop :=
  a1 0 = W ∧ a1 1 = 205057 ∧ a2 0 = -1 ∧ a2 1 = -1 ∧ a3 0 = nI su ∧ a3 e = nI sv ∧ a3 4 = nI sw ∧ a4 0 = 5 ∧ a4 4 = val ∧ a5 0 = 1 ∧ a5 4 = 1 ∧ a6 e = nI 1 ∧ a6 4 = -1 ∧ (e ≠ 0 → a5 e = 0 ∧ a6 0 = -1)
/-- after put(top, -2): its entry besides -/
def zt_F3 (a1 a2 a3 a4 a5 a6 : Nat → Int32) (W : Int32) (e ct su sv sw st : Nat) (val : Int32) : Prop :=
  zt_F2 a1 a2 a3 a4 a5 a6 W e su sv sw val ∧ a3 ct = nI st ∧ a4 ct = -2 ∧ a5 ct = 1 ∧ a6 ct = -1
theorem zt_P1 {post : Int32 → St2 → Prop} {X : Int32} {s : Nat} (hX : zt_one X s) (hs : s < 1000) (h7 : a7 121 = nI 0)
    (H : ∀ b1 b2 b3 b4 b5 b6 : Nat → Int32, zt_F1 b1 b2 b3 b4 b5 b6 s → post 1 (nI 0, nI 121, nI 1, f3, 0, b1, b2, b3, b4, b5, b6, a7, a8, a9, a10, a11, a12)) : wpX_put post (-1, nI 122, nI 0, f3, f4, a1, a2, a3, a4, a5, a6, a7, a8, a9, a10, a11, a12) X 5 := by
  have hM : ∀ ψ : Int32 → St2 → Prop, ψ (nI 0) (nI 0, nI 121, nI 0, f3, f4, upd (upd a1 0 205056) 0 205057, upd a2 0 (-1), upd a3 (4 * 0) (nI s), upd a4 (4 * 0) 0, upd a5 (4 * 0) 0, upd a6 (4 * 0) (-1), a7, a8, a9, a10, a11, a12) → wpX_makePath ψ (-1, nI 122, nI 0, f3, f4, a1, a2, a3, a4, a5, a6, a7, a8, a9, a10, a11, a12) X := fun ψ h =>
    zt_mp1 hX (fun J hJ => zt_mpN0 (m := 121) (b := 0) (by decide) (by omega) (by omega) h7 hs hJ) h
  refine zt_put (k := 0) (e := 0) hX.1 (fun ψ h => zt_find1 hX zt_E0 (Or.inl rfl) h) (by omega) (by omega) hM (H _ _ _ _ _ _ ?_)
  exact ⟨rfl, rfl, rfl, rfl, rfl, rfl⟩
theorem zt_P2e {post : Int32 → St2 → Prop} {X val : Int32} {s t : Nat} (hX : zt_two X s t) (hs : s < 1000) (ht : t < 1000) (h7 : a7 120 = nI 1) (hF : zt_F1 a1 a2 a3 a4 a5 a6 s)
    (H : ∀ b1 b2 b3 b4 b5 b6 : Nat → Int32, zt_F2 b1 b2 b3 b4 b5 b6 205057 0 s s t val → post 1 (nI 0, nI 120, nI 2, f3, 0, b1, b2, b3, b4, b5, b6, a7, a8, a9, a10, a11, a12)) : wpX_put post (nI 0, nI 121, nI 1, f3, f4, a1, a2, a3, a4, a5, a6, a7, a8, a9, a10, a11, a12) X val := by
  obtain ⟨h1, h2, h3, h4, h5, h6⟩ := hF
  have hn : zt_nd a1 a3 0 1 (zt_f 0 0 0) (zt_f s 0 0) := zt_nd1 (by omega) h1 (by decide +kernel) h3 hs
  have hE : zt_E (nI 0, nI 121, nI 1, f3, f4, a1, a2, a3, a4, a5, a6, a7, a8, a9, a10, a11, a12) (nI 0) s (nI 0) := zt_Ef (k := 0) hn h2 (by omega) (fun i hi => absurd hi (by omega))
  have hE2 : zt_E (nI 0, nI 121, nI 1, f3, f4, a1, a2, a3, a4, a5, a6, a7, a8, a9, a10, a11, a12) (a6 0) t (-1) := by
    rw [h6]
    exact zt_E0
  have hM : ∀ ψ : Int32 → St2 → Prop, ψ (nI 4) (nI 0, nI 120, nI 1, f3, f4, upd (upd a1 1 205056) 1 205057, upd a2 1 (-1), upd a3 (4 * 1) (nI t), upd a4 (4 * 1) 0, upd a5 (4 * 1) 0, upd (upd a6 0 (nI 1)) (4 * 1) (-1), a7, a8, a9, a10, a11, a12) → wpX_makePath ψ (nI 0, nI 121, nI 1, f3, f4, a1, a2, a3, a4, a5, a6, a7, a8, a9, a10, a11, a12) X := fun ψ h => by
    have st1 : ∀ J : Int32 → Int32 → Int32 → Int32 → Int32 → Int32 → Int32 → (Nat → Int32) → (Nat → Int32) → (Nat → Int32) → (Nat → Int32) → (Nat → Int32) → (Nat → Int32) → (Nat → Int32) → (Nat → Int32) → (Nat → Int32) → (Nat → Int32) → (Nat → Int32) → (Nat → Int32) → Prop, J (nI 0) 1 (nI 0) (nI 121) (nI 1) f3 f4 a1 a2 a3 a4 a5 a6 a7 a8 a9 a10 a11 a12 → wX_makePath_42 ψ J X (-1) 2 0 (nI s) (nI 0) (nI 0) (nI 121) (nI 1) f3 f4 a1 a2 a3 a4 a5 a6 a7 a8 a9 a10 a11 a12 := fun J hJ => zt_mpF (by decide) (by omega) hE hJ
    have st2 : ∀ J : Int32 → Int32 → Int32 → Int32 → Int32 → Int32 → Int32 → (Nat → Int32) → (Nat → Int32) → (Nat → Int32) → (Nat → Int32) → (Nat → Int32) → (Nat → Int32) → (Nat → Int32) → (Nat → Int32) → (Nat → Int32) → (Nat → Int32) → (Nat → Int32) → (Nat → Int32) → Prop, J (nI 4) 2 (nI 0) (nI 120) (nI 1) f3 f4 (upd (upd a1 1 205056) 1 205057) (upd a2 1 (-1)) (upd a3 (4 * 1) (nI t)) (upd a4 (4 * 1) 0) (upd a5 (4 * 1) 0) (upd (upd a6 0 (nI 1)) (4 * 1) (-1)) a7 a8 a9 a10 a11 a12 → wX_makePath_42 ψ J X (nI 0) 2 1 (nI t) (a6 0) (nI 0) (nI 121) (nI 1) f3 f4 a1 a2 a3 a4 a5 a6 a7 a8 a9 a10 a11 a12 := fun J hJ => by
      rw [h6]
      exact zt_mpN1 (m := 120) (b := 1) (by decide) (by omega) (by omega) (by omega) h7 ht hJ
    exact zt_mp2 hX (by omega) st1 st2 h
  refine zt_put (k := 1) (e := 4) hX.1 (fun ψ h => zt_find2 hX (by omega) hE hE2 (Or.inl rfl) h) (by omega) (by omega) hM (H _ _ _ _ _ _ ?_)
  exact ⟨h1, rfl, h2, rfl, h3, h3, rfl, h4, rfl, h5, rfl, rfl, rfl, fun z => absurd rfl z⟩
theorem zt_P2n {post : Int32 → St2 → Prop} {X val W : Int32} {s t su k : Nat} (hX : zt_two X s t) (hu : su < 1000) (hs : s < 1000) (ht : t < 1000) (hk : k ≤ 1) (hl : 0 < k → su < s) (hg : k < 1 → s < su) (hW : zt_iw 205057 (nI 1) (nI k) (nI 1) = W) (h7 : a7 120 = nI 1) (hF : zt_F1 a1 a2 a3 a4 a5 a6 su)
    (H : ∀ b1 b2 b3 b4 b5 b6 : Nat → Int32, zt_F2 b1 b2 b3 b4 b5 b6 W 1 su s t val → post 1 (nI 0, nI 120, nI 2, f3, 0, b1, b2, b3, b4, b5, b6, a7, a8, a9, a10, a11, a12)) : wpX_put post (nI 0, nI 121, nI 1, f3, f4, a1, a2, a3, a4, a5, a6, a7, a8, a9, a10, a11, a12) X val := by
  obtain ⟨h1, h2, h3, h4, h5, h6⟩ := hF
  have hn : zt_nd a1 a3 0 1 (zt_f 0 0 0) (zt_f su 0 0) := zt_nd1 (by omega) h1 (by decide +kernel) h3 hu
  have hne : ∀ i, i < 1 → zt_f su 0 0 i ≠ s := lt_s lt_0 (show su ≠ s by omega)
  have hl' : ∀ i, i < k → zt_f su 0 0 i < s := fun i hi => by
    have e : i = 0 := by omega
    subst e
    exact hl hi
  have hg' : k < 1 → s < zt_f su 0 0 k := fun z => by
    have e : k = 0 := by omega
    subst e
    exact hg z
  have hE : zt_E (nI 0, nI 121, nI 1, f3, f4, a1, a2, a3, a4, a5, a6, a7, a8, a9, a10, a11, a12) (nI 0) s (-1) := zt_En hn h2 hs hne
  have hM : ∀ ψ : Int32 → St2 → Prop, ψ (nI 4) (nI 0, nI 120, nI 1, f3, f4, upd (upd (upd a1 0 W) 1 205056) 1 205057, upd a2 1 (-1), upd (upd a3 (4 * 0 + 1) (nI s)) (4 * 1) (nI t), upd (upd a4 (4 * 0 + 1) 0) (4 * 1) 0, upd (upd a5 (4 * 0 + 1) 0) (4 * 1) 0, upd (upd (upd a6 (4 * 0 + 1) (-1)) 1 (nI 1)) (4 * 1) (-1), a7, a8, a9, a10, a11, a12) → wpX_makePath ψ (nI 0, nI 121, nI 1, f3, f4, a1, a2, a3, a4, a5, a6, a7, a8, a9, a10, a11, a12) X := fun ψ h => by
    have st1 : ∀ J : Int32 → Int32 → Int32 → Int32 → Int32 → Int32 → Int32 → (Nat → Int32) → (Nat → Int32) → (Nat → Int32) → (Nat → Int32) → (Nat → Int32) → (Nat → Int32) → (Nat → Int32) → (Nat → Int32) → (Nat → Int32) → (Nat → Int32) → (Nat → Int32) → (Nat → Int32) → Prop, J (nI 1) 1 (nI 0) (nI 121) (nI 1) f3 f4 (upd a1 0 W) a2 (upd a3 (4 * 0 + 1) (nI s)) (upd a4 (4 * 0 + 1) 0) (upd a5 (4 * 0 + 1) 0) (upd a6 (4 * 0 + 1) (-1)) a7 a8 a9 a10 a11 a12 → wX_makePath_42 ψ J X (-1) 2 0 (nI s) (nI 0) (nI 0) (nI 121) (nI 1) f3 f4 a1 a2 a3 a4 a5 a6 a7 a8 a9 a10 a11 a12 := fun J hJ =>
      zt_mpI (cl := 1) (W := W) (by decide) hn h2 (by omega) hk hl' hg' hne hs (by omega) (by rw [h1]; decide +kernel) (by rw [h1]; exact hW) hJ
    have st2 : ∀ J : Int32 → Int32 → Int32 → Int32 → Int32 → Int32 → Int32 → (Nat → Int32) → (Nat → Int32) → (Nat → Int32) → (Nat → Int32) → (Nat → Int32) → (Nat → Int32) → (Nat → Int32) → (Nat → Int32) → (Nat → Int32) → (Nat → Int32) → (Nat → Int32) → (Nat → Int32) → Prop, J (nI 4) 2 (nI 0) (nI 120) (nI 1) f3 f4 (upd (upd (upd a1 0 W) 1 205056) 1 205057) (upd a2 1 (-1)) (upd (upd a3 (4 * 0 + 1) (nI s)) (4 * 1) (nI t)) (upd (upd a4 (4 * 0 + 1) 0) (4 * 1) 0) (upd (upd a5 (4 * 0 + 1) 0) (4 * 1) 0) (upd (upd (upd a6 (4 * 0 + 1) (-1)) 1 (nI 1)) (4 * 1) (-1)) a7 a8 a9 a10 a11 a12 → wX_makePath_42 ψ J X (nI 1) 2 1 (nI t) (upd a6 (4 * 0 + 1) (-1) 1) (nI 0) (nI 121) (nI 1) f3 f4 (upd a1 0 W) a2 (upd a3 (4 * 0 + 1) (nI s)) (upd a4 (4 * 0 + 1) 0) (upd a5 (4 * 0 + 1) 0) (upd a6 (4 * 0 + 1) (-1)) a7 a8 a9 a10 a11 a12 := fun J hJ => by
      have e6 : upd a6 (4 * 0 + 1) (-1) 1 = -1 := pk_us
      rw [e6]
      exact zt_mpN1 (m := 120) (b := 1) (by decide) (by omega) (by omega) (by omega) h7 ht hJ
    exact zt_mp2 hX (by omega) st1 st2 h
  refine zt_put (k := 1) (e := 4) hX.1 (fun ψ h => zt_find2n hX hE h) (by omega) (by omega) hM (H _ _ _ _ _ _ ?_)
  exact ⟨rfl, rfl, h2, rfl, h3, rfl, rfl, h4, rfl, h5, rfl, rfl, rfl, fun _ => ⟨rfl, h6⟩⟩
theorem zt_P3 {post : Int32 → St2 → Prop} {X val W W' : Int32} {n k e s su sv sw : Nat} {c r : Nat → Nat} (hX : zt_one X s) (hs : s < 1000) (hF : zt_F2 a1 a2 a3 a4 a5 a6 W e su sv sw val) (hn : zt_nd a1 a3 0 n c r) (he : n = e + 1) (he1 : e ≤ 1)
    (hk : k ≤ n) (hl : ∀ i, i < k → r i < s) (hg : k < n → s < r k) (hne : ∀ i, i < n → r i ≠ s) (hc : (W >>> (((4 * nI n) + 4) &&& 31)) &&& 15 = nI n) (hW : zt_iw W (nI n) (nI k) (nI n) = W')
    (H : ∀ b1 b2 b3 b4 b5 b6 : Nat → Int32, zt_F3 b1 b2 b3 b4 b5 b6 W' e n su sv sw s val → post 1 (nI 0, nI 120, nI 3, f3, 0, b1, b2, b3, b4, b5, b6, a7, a8, a9, a10, a11, a12)) : wpX_put post (nI 0, nI 120, nI 2, f3, f4, a1, a2, a3, a4, a5, a6, a7, a8, a9, a10, a11, a12) X (-2) := by
  obtain ⟨h1, h1', h2, h2', h3, h3e, h34, h4, h44, h5, h54, h6, h64, hx⟩ := hF
  have hE : zt_E (nI 0, nI 120, nI 2, f3, f4, a1, a2, a3, a4, a5, a6, a7, a8, a9, a10, a11, a12) (nI 0) s (-1) := zt_En hn h2 hs hne
  have hM : ∀ ψ : Int32 → St2 → Prop, ψ (nI (4 * 0 + n)) (nI 0, nI 120, nI 2, f3, f4, upd a1 0 W', a2, upd a3 (4 * 0 + n) (nI s), upd a4 (4 * 0 + n) 0, upd a5 (4 * 0 + n) 0, upd a6 (4 * 0 + n) (-1), a7, a8, a9, a10, a11, a12) → wpX_makePath ψ (nI 0, nI 120, nI 2, f3, f4, a1, a2, a3, a4, a5, a6, a7, a8, a9, a10, a11, a12) X := fun ψ h =>
    zt_mp1 hX (fun J hJ => zt_mpI (cl := n) (W := W') (by decide) hn h2 (by omega) hk hl hg hne hs (by omega) (by rw [h1]; exact hc) (by rw [h1]; exact hW) hJ) h
  refine zt_put (k := 2) (e := 4 * 0 + n) hX.1 (fun ψ h => zt_find1 hX hE (Or.inl rfl) h) (by omega) (by omega) hM (H _ _ _ _ _ _ ?_)
  have n0 : (0 : Nat) ≠ 4 * 0 + n := by omega
  have ne : e ≠ 4 * 0 + n := by omega
  have n4 : (4 : Nat) ≠ 4 * 0 + n := by omega
  have nn : n = 4 * 0 + n := by omega
  refine ⟨⟨pk_us, ?_, h2, h2', ?_, ?_, ?_, ?_, ?_, ?_, ?_, ?_, ?_, ?_⟩, ?_, ?_, ?_, ?_⟩
  · rw [pk_un (by omega)]; exact h1'
  · rw [pk_un n0]; exact h3
  · rw [pk_un ne]; exact h3e
  · rw [pk_un n4]; exact h34
  · rw [pk_un n0, pk_un n0]; exact h4
  · rw [pk_un n4, pk_un n4]; exact h44
  · rw [pk_un n0, pk_un n0]; exact h5
  · rw [pk_un n4, pk_un n4]; exact h54
  · rw [pk_un ne]; exact h6
  · rw [pk_un n4]; exact h64
  · intro z
    rw [pk_un ne, pk_un ne, pk_un n0]
    exact hx z
  · rw [← nn]; exact pk_us
  · rw [← nn]; exact pk_us
  · rw [← nn]; exact pk_us
  · rw [← nn]; exact pk_us
end
end
section
/-! wordOf and list -/
section
variable {f0 f1 f2 f3 f4 g0 g1 g2 g3 g4 k0 k1 k2 k3 k4 : Int32} {a1 a2 a3 a4 a5 a6 a7 a8 a9 a10 a11 a12 b1 b2 b3 b4 b5 b6 b7 b8 b9 b10 b11 b12 d1 d2 d3 d4 d5 d6 d7 d8 d9 d10 d11 d12 : Nat → Int32}
/-- a slice of two letters on the path -/
theorem zt_w2 {post : Int32 → Prop} {x1 : Int32} {n w k e a b : Nat} (hk : k < 3) (hx : ¬ x1 < nI k) (he : e < 488) (h8 : a8 k = nI e) (h3 : a3 e = nI (9 * (a + 1) + b + 1)) (ha : a < 8) (hb : b < 8)
    (H : wX_wordOf_4 post x1 f0 f1 f2 f3 f4 a1 a2 a3 a4 a5 a6 a7 a8 a9 a10 a11 a12 n (nI (8 * (8 * w + a) + b)) (nI (k + 1))) : wX_wordOf_4 post x1 f0 f1 f2 f3 f4 a1 a2 a3 a4 a5 a6 a7 a8 a9 a10 a11 a12 (n + 1) (nI w) (nI k) := by
  have ek : (nI k).toNatClampNeg = k := nI_clamp (by omega)
  have ee : (nI e).toNatClampNeg = e := nI_clamp (by omega)
  have ed : nI (9 * (a + 1) + b + 1) / 9 = nI (a + 1) := by
    show nI (9 * (a + 1) + b + 1) / nI 9 = _
    rw [pk_div (by omega) (by omega) (by omega), show (9 * (a + 1) + b + 1) / 9 = a + 1 by omega]
  have er : nI (9 * (a + 1) + b + 1) - nI (9 * (a + 1) + b + 1) / 9 * 9 = nI (b + 1) := by
    show nI (9 * (a + 1) + b + 1) - nI (9 * (a + 1) + b + 1) / nI 9 * nI 9 = _
    rw [pk_rem (by omega) (by omega) (by omega), show (9 * (a + 1) + b + 1) % 9 = b + 1 by omega]
  have e8 : ∀ x y : Nat, 8 * nI x + nI (y + 1) - 1 = nI (8 * x + y) := fun x y => by
    show nI 8 * nI x + nI (y + 1) - 1 = _
    rw [pk_mul, nI_add, ← Nat.add_assoc, nI_pred]
  have hin : vp_in (a8 (nI k).toNatClampNeg) 488 := by
    rw [ek, h8]
    exact pk_in e 488 he
  refine br_f hx ⟨pk_in k 3 hk, hin, nm_r (e' := nI (9 * (a + 1) + b + 1)) (by rw [ek, h8, ee, h3]) ⟨by decide, nm_r (e' := nI (8 * w + a)) (by rw [ed]; exact e8 w a) ⟨by decide, br_f (fun z => ?_) ⟨by decide, nm_r (e' := nI (8 * (8 * w + a) + b)) (by rw [er]; exact e8 _ b) (nm_r (e' := nI (k + 1)) (nI_1 k) H)⟩⟩⟩⟩
  rw [er] at z
  exact nI_nle (by omega) (by omega) z
/-- a slice of one letter on the path -/
theorem zt_w1 {post : Int32 → Prop} {x1 : Int32} {n w k e c : Nat} (hk : k < 3) (hx : ¬ x1 < nI k) (he : e < 488) (h8 : a8 k = nI e) (h3 : a3 e = nI (9 * (c + 1))) (hc : c < 8)
    (H : wX_wordOf_4 post x1 f0 f1 f2 f3 f4 a1 a2 a3 a4 a5 a6 a7 a8 a9 a10 a11 a12 n (nI (8 * w + c)) (nI (k + 1))) : wX_wordOf_4 post x1 f0 f1 f2 f3 f4 a1 a2 a3 a4 a5 a6 a7 a8 a9 a10 a11 a12 (n + 1) (nI w) (nI k) := by
  have ek : (nI k).toNatClampNeg = k := nI_clamp (by omega)
  have ee : (nI e).toNatClampNeg = e := nI_clamp (by omega)
  have ed : nI (9 * (c + 1)) / 9 = nI (c + 1) := by
    show nI (9 * (c + 1)) / nI 9 = _
    rw [pk_div (by omega) (by omega) (by omega), show (9 * (c + 1)) / 9 = c + 1 by omega]
  have er : nI (9 * (c + 1)) - nI (9 * (c + 1)) / 9 * 9 = nI 0 := by
    show nI (9 * (c + 1)) - nI (9 * (c + 1)) / nI 9 * nI 9 = _
    rw [pk_rem (by omega) (by omega) (by omega), show (9 * (c + 1)) % 9 = 0 by omega]
  have e8 : ∀ x y : Nat, 8 * nI x + nI (y + 1) - 1 = nI (8 * x + y) := fun x y => by
    show nI 8 * nI x + nI (y + 1) - 1 = _
    rw [pk_mul, nI_add, ← Nat.add_assoc, nI_pred]
  have hin : vp_in (a8 (nI k).toNatClampNeg) 488 := by
    rw [ek, h8]
    exact pk_in e 488 he
  refine br_f hx ⟨pk_in k 3 hk, hin, nm_r (e' := nI (9 * (c + 1))) (by rw [ek, h8, ee, h3]) ⟨by decide, nm_r (e' := nI (8 * w + c)) (by rw [ed]; exact e8 w c) ⟨by decide, br_t ?_ (nm_r (e' := nI (k + 1)) (nI_1 k) H)⟩⟩⟩
  rw [er]
  decide
theorem zt_word2of {post : Int32 → Prop} {e a b : Nat} (he : e < 488) (h8 : a8 0 = nI e) (h3 : a3 e = nI (9 * (a + 1) + b + 1)) (ha : a < 8) (hb : b < 8) (hp : post (nI (64 + 8 * a + b))) : wpX_wordOf post (f0, f1, f2, f3, f4, a1, a2, a3, a4, a5, a6, a7, a8, a9, a10, a11, a12) (nI 0) := by
  unfold wpX_wordOf
  refine ⟨2, zt_w2 (w := 1) (k := 0) (by omega) (by decide) he h8 h3 ha hb (br_t (by decide) ?_)⟩
  rw [show 8 * (8 * 1 + a) + b = 64 + 8 * a + b by omega]
  exact hp
theorem zt_word1of {post : Int32 → Prop} {e c : Nat} (he : e < 488) (h8 : a8 0 = nI e) (h3 : a3 e = nI (9 * (c + 1))) (hc : c < 8) (hp : post (nI (8 + c))) : wpX_wordOf post (f0, f1, f2, f3, f4, a1, a2, a3, a4, a5, a6, a7, a8, a9, a10, a11, a12) (nI 0) := by
  unfold wpX_wordOf
  exact ⟨2, zt_w1 (w := 1) (k := 0) (by omega) (by decide) he h8 h3 hc (br_t (by decide) hp)⟩
theorem zt_word3of {post : Int32 → Prop} {e e' p q r : Nat} (he : e < 488) (he' : e' < 488) (h8 : a8 0 = nI e) (h8' : a8 1 = nI e') (h3 : a3 e = nI (9 * (p + 1) + q + 1)) (h3' : a3 e' = nI (9 * (r + 1))) (h1 : p < 8) (hq : q < 8) (hr : r < 8) (hp : post (nI (512 + 64 * p + 8 * q + r))) : wpX_wordOf post (f0, f1, f2, f3, f4, a1, a2, a3, a4, a5, a6, a7, a8, a9, a10, a11, a12) (nI 1) := by
  unfold wpX_wordOf
  refine ⟨3, zt_w2 (w := 1) (k := 0) (by omega) (by decide) he h8 h3 h1 hq (zt_w1 (k := 1) (by omega) (by decide) he' h8' h3' hr (br_t (by decide) ?_))⟩
  rw [show 8 * (8 * (8 * 1 + p) + q) + r = 512 + 64 * p + 8 * q + r by omega]
  exact hp
/-- behind an entry without a layer below it -/
theorem zt_197a {post : St2 → Prop} {J : Int32 → Int32 → Int32 → (Nat → Int32) → (Nat → Int32) → (Nat → Int32) → (Nat → Int32) → (Nat → Int32) → (Nat → Int32) → (Nat → Int32) → (Nat → Int32) → (Nat → Int32) → (Nat → Int32) → (Nat → Int32) → (Nat → Int32) → Prop} {x1 : Int32} {j e : Nat} (he : e < 488) (h6 : a6 e = -1) (hJ : J x1 (nI (j + 1)) f3 a1 a2 a3 a4 a5 a6 a7 a8 a9 a10 a11 a12) : wX_list_197 post J x1 (nI j) (nI e) f0 f1 f2 f3 f4 a1 a2 a3 a4 a5 a6 a7 a8 a9 a10 a11 a12 := by
  unfold wX_list_197
  exact ⟨pk_in e 488 he, br_t (by rw [nI_clamp (by omega)]; exact h6) (nm_r (e' := nI (j + 1)) (nI_1 j) hJ)⟩
/-- behind an entry with a layer below it: down -/
theorem zt_197b {post : St2 → Prop} {J : Int32 → Int32 → Int32 → (Nat → Int32) → (Nat → Int32) → (Nat → Int32) → (Nat → Int32) → (Nat → Int32) → (Nat → Int32) → (Nat → Int32) → (Nat → Int32) → (Nat → Int32) → (Nat → Int32) → (Nat → Int32) → (Nat → Int32) → Prop} {j e y b : Nat} (he : e < 488) (hy : y + 1 < 3) (hb : b < 122) (h6 : a6 e = nI b) (hJ : J (nI (y + 1)) (nI (j + 1)) f3 a1 a2 a3 a4 a5 a6 a7 a8 a9 a10 (upd a11 (y + 1) (nI b)) (upd a12 (y + 1) 0)) : wX_list_197 post J (nI y) (nI j) (nI e) f0 f1 f2 f3 f4 a1 a2 a3 a4 a5 a6 a7 a8 a9 a10 a11 a12 := by
  unfold wX_list_197
  have ee : (nI e).toNatClampNeg = e := nI_clamp (by omega)
  have ey : (nI (y + 1)).toNatClampNeg = y + 1 := nI_clamp (by omega)
  have hi : vp_in (nI (y + 1)) 3 := pk_in (y + 1) 3 hy
  exact ⟨pk_in e 488 he, br_f (by rw [ee, h6]; exact zt_ne (by omega)) (nm_r (e' := nI (y + 1)) (nI_1 y) ⟨pk_in e 488 he, hi, nm_r (e' := upd a11 (y + 1) (nI b)) (by rw [ey, ee, h6]) ⟨hi, nm_r (e' := upd a12 (y + 1) 0) (by rw [ey]) (nm_r (e' := nI (j + 1)) (nI_1 j) hJ)⟩⟩)⟩
/-- an entry that holds no value -/
theorem zt_sN {post : St2 → Prop} {n j y b i m c : Nat} (hj : j < 400) (hy : y < 3) (hb : b < 122) (h11 : a11 y = nI b) (h12 : a12 y = nI i) (h1 : a1 b &&& 15 = nI m) (hi : i < m) (hm : m ≤ 4) (hc4 : c < 4) (hc : (a1 b >>> (((4 * nI i) + 4) &&& 31)) &&& 15 = nI c) (h5 : a5 (4 * b + c) = 0)
    (H : wX_list_197 post (wX_list_51 post f0 f1 f2 f4 n) (nI y) (nI j) (nI (4 * b + c)) f0 f1 f2 f3 f4 a1 a2 a3 a4 a5 a6 a7 (upd a8 y (nI (4 * b + c))) a9 a10 a11 (upd a12 y (nI (i + 1)))) : wX_list_51 post f0 f1 f2 f4 (n + 1) (nI y) (nI j) f3 a1 a2 a3 a4 a5 a6 a7 a8 a9 a10 a11 a12 := by
  have ey : (nI y).toNatClampNeg = y := nI_clamp (by omega)
  have ee : (nI (4 * b + c)).toNatClampNeg = 4 * b + c := nI_clamp (by omega)
  have hi3 : vp_in (nI y) 3 := pk_in y 3 hy
  have he : vp_in (nI (4 * b + c)) 488 := pk_in (4 * b + c) 488 (by omega)
  have e12 : a12 (nI y).toNatClampNeg = nI i := by rw [ey]; exact h12
  unfold wX_list_51
  refine br_f (nI_ge (b := 400) hj (by omega)) (br_f (nI_pos (by omega)) ⟨hi3, nm_r (e' := nI b) (by rw [ey]; exact h11) (br_f (zt_ne (by omega)) ⟨hi3, zt_son hb h1 (br_f ?_ ⟨hi3, ?_⟩)⟩)⟩)
  · rw [e12]
    exact fun z => absurd ((nI_eq (by omega) (by omega)).mp z) (by omega)
  rw [e12]
  refine zt_ea hb hc ⟨hi3, hi3, nm_r (e' := upd a12 y (nI (i + 1))) (by rw [ey, nI_1]) ⟨hi3, nm_r (e' := upd a8 y (nI (4 * b + c))) (by rw [ey]) ⟨he, br_t (by rw [ee]; exact h5) H⟩⟩⟩
/-- an entry that holds a value -/
theorem zt_sH {post : St2 → Prop} {n j y b i m c l : Nat} {w : Int32} (hj : j < 400) (hy : y < 3) (hb : b < 122) (h11 : a11 y = nI b) (h12 : a12 y = nI i) (h1 : a1 b &&& 15 = nI m) (hi : i < m) (hm : m ≤ 4) (hc4 : c < 4) (hc : (a1 b >>> (((4 * nI i) + 4) &&& 31)) &&& 15 = nI c) (h5 : a5 (4 * b + c) = 1) (hl : l < 40)
    (hw : ∀ ψ : Int32 → Prop, ψ w → wpX_wordOf ψ (f0, f1, f2, nI l, f4, a1, a2, a3, a4, a5, a6, a7, upd a8 y (nI (4 * b + c)), a9, a10, a11, upd a12 y (nI (i + 1))) (nI y))
    (H : wX_list_197 post (wX_list_51 post f0 f1 f2 f4 n) (nI y) (nI j) (nI (4 * b + c)) f0 f1 f2 (nI (l + 1)) f4 a1 a2 a3 a4 a5 a6 a7 (upd a8 y (nI (4 * b + c))) (upd a9 l w) (upd a10 l (a4 (4 * b + c))) a11 (upd a12 y (nI (i + 1)))) : wX_list_51 post f0 f1 f2 f4 (n + 1) (nI y) (nI j) (nI l) a1 a2 a3 a4 a5 a6 a7 a8 a9 a10 a11 a12 := by
  have ey : (nI y).toNatClampNeg = y := nI_clamp (by omega)
  have el : (nI l).toNatClampNeg = l := nI_clamp (by omega)
  have ee : (nI (4 * b + c)).toNatClampNeg = 4 * b + c := nI_clamp (by omega)
  have hi3 : vp_in (nI y) 3 := pk_in y 3 hy
  have hl40 : vp_in (nI l) 40 := pk_in l 40 hl
  have he : vp_in (nI (4 * b + c)) 488 := pk_in (4 * b + c) 488 (by omega)
  have e12 : a12 (nI y).toNatClampNeg = nI i := by rw [ey]; exact h12
  unfold wX_list_51
  refine br_f (nI_ge (b := 400) hj (by omega)) (br_f (nI_pos (by omega)) ⟨hi3, nm_r (e' := nI b) (by rw [ey]; exact h11) (br_f (zt_ne (by omega)) ⟨hi3, zt_son hb h1 (br_f ?_ ⟨hi3, ?_⟩)⟩)⟩)
  · rw [e12]
    exact fun z => absurd ((nI_eq (by omega) (by omega)).mp z) (by omega)
  rw [e12]
  refine zt_ea hb hc ⟨hi3, hi3, nm_r (e' := upd a12 y (nI (i + 1))) (by rw [ey, nI_1]) ⟨hi3, nm_r (e' := upd a8 y (nI (4 * b + c))) (by rw [ey]) ⟨he, br_f (by rw [ee, h5]; decide) (hw _ ⟨hl40, nm_r (e' := upd a9 l w) (by rw [el]) ⟨he, hl40, nm_r (e' := upd a10 l (a4 (4 * b + c))) (by rw [el, ee]) (nm_r (e' := nI (l + 1)) (nI_1 l) H)⟩⟩)⟩⟩⟩
/-- the end of a chain's last node -/
theorem zt_sE {post : St2 → Prop} {n j y b m : Nat} (hj : j < 400) (hy : y < 3) (hb : b < 122) (h11 : a11 y = nI b) (h12 : a12 y = nI m) (h1 : a1 b &&& 15 = nI m) (h2 : a2 b = -1)
    (H : wX_list_51 post f0 f1 f2 f4 n (nI y) (nI (j + 1)) f3 a1 a2 a3 a4 a5 a6 a7 a8 a9 a10 (upd a11 y (-1)) (upd a12 y 0)) : wX_list_51 post f0 f1 f2 f4 (n + 1) (nI y) (nI j) f3 a1 a2 a3 a4 a5 a6 a7 a8 a9 a10 a11 a12 := by
  have ey : (nI y).toNatClampNeg = y := nI_clamp (by omega)
  have eb : (nI b).toNatClampNeg = b := nI_clamp (by omega)
  have hi3 : vp_in (nI y) 3 := pk_in y 3 hy
  unfold wX_list_51
  exact br_f (nI_ge (b := 400) hj (by omega)) (br_f (nI_pos (by omega)) ⟨hi3, nm_r (e' := nI b) (by rw [ey]; exact h11) (br_f (zt_ne (by omega)) ⟨hi3, zt_son hb h1 (br_t (by rw [ey]; exact h12) ⟨pk_in b 122 hb, hi3, nm_r (e' := upd a11 y (-1)) (by rw [ey, eb, h2]) ⟨hi3, nm_r (e' := upd a12 y 0) (by rw [ey]) (nm_r (e' := nI (j + 1)) (nI_1 j) H)⟩⟩)⟩)⟩)
/-- back up -/
theorem zt_sU {post : St2 → Prop} {n j y : Nat} {y' : Int32} (hj : j < 400) (hy : y < 3) (h11 : a11 y = -1) (hy' : nI y + (-1) = y')
    (H : wX_list_51 post f0 f1 f2 f4 n y' (nI (j + 1)) f3 a1 a2 a3 a4 a5 a6 a7 a8 a9 a10 a11 a12) : wX_list_51 post f0 f1 f2 f4 (n + 1) (nI y) (nI j) f3 a1 a2 a3 a4 a5 a6 a7 a8 a9 a10 a11 a12 := by
  have ey : (nI y).toNatClampNeg = y := nI_clamp (by omega)
  unfold wX_list_51
  exact br_f (nI_ge (b := 400) hj (by omega)) (br_f (nI_pos (by omega)) ⟨pk_in y 3 hy, nm_r (e' := -1) (by rw [ey]; exact h11) (br_t rfl (nm_r (e' := y') hy' (nm_r (e' := nI (j + 1)) (nI_1 j) H)))⟩)
/-- the loop's end -/
theorem zt_sX {post : St2 → Prop} {n j : Nat} (hj : j < 400) (hp : post (f0, f1, f2, f3, f4, a1, a2, a3, a4, a5, a6, a7, a8, a9, a10, a11, a12)) : wX_list_51 post f0 f1 f2 f4 (n + 1) (-1) (nI j) f3 a1 a2 a3 a4 a5 a6 a7 a8 a9 a10 a11 a12 := by
  unfold wX_list_51
  exact br_f (nI_ge (b := 400) hj (by omega)) (br_t (by decide) hp)
/-- at the top layer, at place i of node 0, l words listed: the loop ends well -/
def zt_K (post : St2 → Prop) (f0 f1 f2 f4 : Int32) (a1 a2 a3 a4 a5 a6 a7 : Nat → Int32) (ws vs : Nat → Int32) (n i l j : Nat) : Prop :=
  ∀ a8 a9 a10 a11 a12 : Nat → Int32, a11 0 = nI 0 → a12 0 = nI i → (∀ k, k < l → a9 k = ws k ∧ a10 k = vs k) → wX_list_51 post f0 f1 f2 f4 n (nI 0) (nI j) (nI l) a1 a2 a3 a4 a5 a6 a7 a8 a9 a10 a11 a12
theorem zt_out {ws vs : Nat → Int32} {l : Nat} {w v : Int32} (h : ∀ k, k < l → a9 k = ws k ∧ a10 k = vs k) (hw : ws l = w) (hv : vs l = v) : ∀ k, k < l + 1 → upd a9 l w k = ws k ∧ upd a10 l v k = vs k := by
  intro k hk
  by_cases e : k = l
  · rw [e, pk_us, pk_us]
    exact ⟨hw.symm, hv.symm⟩
  · rw [pk_un e, pk_un e]
    exact h k (by omega)
/-- visit A: a held entry without a layer below it; its word by hw -/
theorem zt_vA {post : St2 → Prop} {ws vs : Nat → Int32} {n i l j m c : Nat} (hj : j < 400) (h1 : a1 0 &&& 15 = nI m) (hi : i < m) (hm : m ≤ 4) (hc4 : c < 4) (hc : (a1 0 >>> (((4 * nI i) + 4) &&& 31)) &&& 15 = nI c) (h5 : a5 c = 1) (h6 : a6 c = -1) (hl : l < 40) (hv : vs l = a4 c)
    (hw : ∀ (ψ : Int32 → Prop) (a8 a9 a10 a11 a12 : Nat → Int32), a8 0 = nI c → ψ (ws l) → wpX_wordOf ψ (f0, f1, f2, nI l, f4, a1, a2, a3, a4, a5, a6, a7, a8, a9, a10, a11, a12) (nI 0))
    (H : zt_K post f0 f1 f2 f4 a1 a2 a3 a4 a5 a6 a7 ws vs n (i + 1) (l + 1) (j + 1)) : zt_K post f0 f1 f2 f4 a1 a2 a3 a4 a5 a6 a7 ws vs (n + 1) i l j := by
  intro a8 a9 a10 a11 a12 h11 h12 ho
  have e0 : 4 * 0 + c = c := by omega
  refine zt_sH (b := 0) (c := c) hj (by omega) (by omega) h11 h12 h1 hi hm hc4 hc (by rw [e0]; exact h5) hl (fun ψ hψ => hw ψ _ _ _ _ _ (by rw [e0]; exact pk_us) hψ) ?_
  refine zt_197a (by omega) (by rw [e0]; exact h6) (H _ _ _ _ _ h11 pk_us (zt_out ho rfl (by rw [e0]; exact hv)))
/-- node 1 below: its one word, and back -/
theorem zt_v1 {post : St2 → Prop} {ws vs : Nat → Int32} {n i l j e p q r : Nat} (hj : j + 3 < 400) (hl : l < 40) (he : e < 488) (h8 : a8 0 = nI e) (h11 : a11 0 = nI 0) (h12 : a12 0 = nI i) (g11 : a11 1 = nI 1) (g12 : a12 1 = 0) (ho : ∀ k, k < l → a9 k = ws k ∧ a10 k = vs k)
    (h1 : a1 1 = 205057) (h2 : a2 1 = -1) (h3 : a3 e = nI (9 * (p + 1) + q + 1)) (h3' : a3 4 = nI (9 * (r + 1))) (hp : p < 8) (hq : q < 8) (hr : r < 8) (h5 : a5 4 = 1) (h6 : a6 4 = -1) (hw : ws l = nI (512 + 64 * p + 8 * q + r)) (hv : vs l = a4 4)
    (H : zt_K post f0 f1 f2 f4 a1 a2 a3 a4 a5 a6 a7 ws vs n i (l + 1) (j + 3)) : wX_list_51 post f0 f1 f2 f4 (n + 3) (nI 1) (nI j) (nI l) a1 a2 a3 a4 a5 a6 a7 a8 a9 a10 a11 a12 := by
  have hs : a1 1 &&& 15 = nI 1 := by rw [h1]; decide +kernel
  refine zt_sH (n := n + 2) (b := 1) (c := 0) (i := 0) (m := 1) (by omega) (by omega) (by omega) g11 g12 hs (by omega) (by omega) (by omega) (by rw [h1]; decide +kernel) h5 hl
    (fun ψ hψ => zt_word3of he (e' := 4) (by omega) ?_ pk_us h3 h3' hp hq hr hψ) ?_
  · rw [pk_un (by omega)]
    exact h8
  refine zt_197a (by omega) h6 (zt_sE (n := n + 1) (b := 1) (m := 1) (by omega) (by omega) (by omega) g11 pk_us hs h2 (zt_sU (n := n) (by omega) (by omega) pk_us (y' := nI 0) (by decide) ?_))
  refine H _ _ _ _ _ ?_ ?_ (zt_out ho hw hv)
  · rw [pk_un (by omega)]
    exact h11
  · rw [pk_un (by omega), pk_un (by omega)]
    exact h12
/-- visit B: a held entry with node 1 below it -/
theorem zt_vB {post : St2 → Prop} {ws vs : Nat → Int32} {n i l j m c p q r : Nat} (hj : j + 4 < 400) (h1 : a1 0 &&& 15 = nI m) (hi : i < m) (hm : m ≤ 4) (hc4 : c < 4) (hc : (a1 0 >>> (((4 * nI i) + 4) &&& 31)) &&& 15 = nI c) (h5 : a5 c = 1) (h6 : a6 c = nI 1) (hl : l + 1 < 40) (hv : vs l = a4 c)
    (hw : ∀ (ψ : Int32 → Prop) (a8 a9 a10 a11 a12 : Nat → Int32), a8 0 = nI c → ψ (ws l) → wpX_wordOf ψ (f0, f1, f2, nI l, f4, a1, a2, a3, a4, a5, a6, a7, a8, a9, a10, a11, a12) (nI 0))
    (g1 : a1 1 = 205057) (g2 : a2 1 = -1) (g3 : a3 c = nI (9 * (p + 1) + q + 1)) (g3' : a3 4 = nI (9 * (r + 1))) (hp : p < 8) (hq : q < 8) (hr : r < 8) (g5 : a5 4 = 1) (g6 : a6 4 = -1) (gw : ws (l + 1) = nI (512 + 64 * p + 8 * q + r)) (gv : vs (l + 1) = a4 4)
    (H : zt_K post f0 f1 f2 f4 a1 a2 a3 a4 a5 a6 a7 ws vs n (i + 1) (l + 2) (j + 4)) : zt_K post f0 f1 f2 f4 a1 a2 a3 a4 a5 a6 a7 ws vs (n + 4) i l j := by
  intro a8 a9 a10 a11 a12 h11 h12 ho
  have e0 : 4 * 0 + c = c := by omega
  refine zt_sH (n := n + 3) (b := 0) (c := c) (by omega) (by omega) (by omega) h11 h12 h1 hi hm hc4 hc (by rw [e0]; exact h5) (by omega) (fun ψ hψ => hw ψ _ _ _ _ _ (by rw [e0]; exact pk_us) hψ) ?_
  refine zt_197b (b := 1) (by omega) (by omega) (by omega) (by rw [e0]; exact h6) (zt_v1 (e := c) (i := i + 1) (p := p) (q := q) (r := r) (by omega) (by omega) (by omega) (by rw [e0]; exact pk_us) ?_ ?_ pk_us pk_us (zt_out ho rfl (by rw [e0]; exact hv)) g1 g2 g3 g3' hp hq hr g5 g6 gw gv H)
  · rw [pk_un (by omega)]
    exact h11
  · rw [pk_un (by omega)]
    exact pk_us
/-- visit C: an entry without a value, with node 1 below it -/
theorem zt_vC {post : St2 → Prop} {ws vs : Nat → Int32} {n i l j m c p q r : Nat} (hj : j + 4 < 400) (h1 : a1 0 &&& 15 = nI m) (hi : i < m) (hm : m ≤ 4) (hc4 : c < 4) (hc : (a1 0 >>> (((4 * nI i) + 4) &&& 31)) &&& 15 = nI c) (h5 : a5 c = 0) (h6 : a6 c = nI 1) (hl : l < 40)
    (g1 : a1 1 = 205057) (g2 : a2 1 = -1) (g3 : a3 c = nI (9 * (p + 1) + q + 1)) (g3' : a3 4 = nI (9 * (r + 1))) (hp : p < 8) (hq : q < 8) (hr : r < 8) (g5 : a5 4 = 1) (g6 : a6 4 = -1) (gw : ws l = nI (512 + 64 * p + 8 * q + r)) (gv : vs l = a4 4)
    (H : zt_K post f0 f1 f2 f4 a1 a2 a3 a4 a5 a6 a7 ws vs n (i + 1) (l + 1) (j + 4)) : zt_K post f0 f1 f2 f4 a1 a2 a3 a4 a5 a6 a7 ws vs (n + 4) i l j := by
  intro a8 a9 a10 a11 a12 h11 h12 ho
  have e0 : 4 * 0 + c = c := by omega
  refine zt_sN (n := n + 3) (b := 0) (c := c) (by omega) (by omega) (by omega) h11 h12 h1 hi hm hc4 hc (by rw [e0]; exact h5) ?_
  refine zt_197b (b := 1) (by omega) (by omega) (by omega) (by rw [e0]; exact h6) (zt_v1 (e := c) (i := i + 1) (p := p) (q := q) (r := r) (by omega) (by omega) (by omega) (by rw [e0]; exact pk_us) ?_ ?_ pk_us pk_us ho g1 g2 g3 g3' hp hq hr g5 g6 gw gv H)
  · rw [pk_un (by omega)]
    exact h11
  · rw [pk_un (by omega)]
    exact pk_us
/-- the end of node 0 -/
theorem zt_vX {post : St2 → Prop} {ws vs : Nat → Int32} {n l j m : Nat} (hj : j + 2 < 400) (h1 : a1 0 &&& 15 = nI m) (h2 : a2 0 = -1)
    (H : ∀ a8 a9 a10 a11 a12 : Nat → Int32, (∀ k, k < l → a9 k = ws k ∧ a10 k = vs k) → post (f0, f1, f2, nI l, f4, a1, a2, a3, a4, a5, a6, a7, a8, a9, a10, a11, a12)) : zt_K post f0 f1 f2 f4 a1 a2 a3 a4 a5 a6 a7 ws vs (n + 3) m l j := by
  intro a8 a9 a10 a11 a12 h11 h12 ho
  exact zt_sE (n := n + 2) (b := 0) (by omega) (by omega) (by omega) h11 h12 h1 h2 (zt_sU (n := n + 1) (by omega) (by omega) pk_us (y' := -1) (by decide) (zt_sX (by omega) (H _ _ _ _ _ ho)))
theorem zt_list {post : St2 → Prop} {ws vs : Nat → Int32} {n : Nat} (H : zt_K post (nI 0) f1 f2 1 a1 a2 a3 a4 a5 a6 a7 ws vs n 0 0 0) : wpX_list post (nI 0, f1, f2, f3, 0, a1, a2, a3, a4, a5, a6, a7, a8, a9, a10, a11, a12) := by
  unfold wpX_list
  refine br_t rfl (br_f (by decide) ?_)
  unfold wX_list_31
  exact nm_e (nm_e ⟨n, H _ _ _ _ _ pk_us pk_us (fun k hk => absurd hk (by omega))⟩)
theorem zt_listed {post : St2 → Prop} (hp : post (f0, f1, f2, f3, 1, a1, a2, a3, a4, a5, a6, a7, a8, a9, a10, a11, a12)) : wpX_list post (f0, f1, f2, f3, 1, a1, a2, a3, a4, a5, a6, a7, a8, a9, a10, a11, a12) := by
  unfold wpX_list
  exact br_f (by decide) hp
end
end
section
/-! first, count, sum, longest -/
section
variable {f0 f1 f2 f3 f4 g0 g1 g2 g3 g4 k0 k1 k2 k3 k4 : Int32} {a1 a2 a3 a4 a5 a6 a7 a8 a9 a10 a11 a12 b1 b2 b3 b4 b5 b6 b7 b8 b9 b10 b11 b12 d1 d2 d3 d4 d5 d6 d7 d8 d9 d10 d11 d12 : Nat → Int32}
/-- what list() answers: l words, ws and their values vs -/
def zt_L (u : St2) (f0 f1 f2 : Int32) (a1 a2 a3 a4 a5 a6 a7 : Nat → Int32) (l : Nat) (ws vs : Nat → Int32) : Prop :=
  ∀ ψ : St2 → Prop, (∀ a8 a9 a10 a11 a12 : Nat → Int32, (∀ k, k < l → a9 k = ws k ∧ a10 k = vs k) → ψ (f0, f1, f2, nI l, 1, a1, a2, a3, a4, a5, a6, a7, a8, a9, a10, a11, a12)) → wpX_list ψ u
theorem zt_first {post : Int32 → St2 → Prop} {l : Nat} {ws vs : Nat → Int32} (hl : 0 < l) (hl2 : l < 40) (hL : zt_L (f0, f1, f2, f3, f4, a1, a2, a3, a4, a5, a6, a7, a8, a9, a10, a11, a12) f0 f1 f2 a1 a2 a3 a4 a5 a6 a7 l ws vs)
    (H : ∀ a8 a9 a10 a11 a12 : Nat → Int32, (∀ k, k < l → a9 k = ws k ∧ a10 k = vs k) → post (ws 0) (f0, f1, f2, nI l, 1, a1, a2, a3, a4, a5, a6, a7, a8, a9, a10, a11, a12)) : wpX_first post (f0, f1, f2, f3, f4, a1, a2, a3, a4, a5, a6, a7, a8, a9, a10, a11, a12) := by
  unfold wpX_first
  refine hL _ (fun b8 b9 b10 b11 b12 ho => br_f (nI_ne0 hl (by omega)) ?_)
  have h := H b8 b9 b10 b11 b12 ho
  rw [← (ho 0 hl).1] at h
  exact h
theorem zt_cS {post : Int32 → St2 → Prop} {X : Int32} {n s i g : Nat} (hi : i < 3) (hg : g ≤ 1) (hB : ∀ ψ : Int32 → Prop, ψ (nI g) → wpX_begins ψ () X (a9 i))
    (H : wX_count_17 post X f0 f1 f2 (nI 3) f4 a1 a2 a3 a4 a5 a6 a7 a8 a9 a10 a11 a12 n (nI (s + g)) (nI (i + 1))) : wX_count_17 post X f0 f1 f2 (nI 3) f4 a1 a2 a3 a4 a5 a6 a7 a8 a9 a10 a11 a12 (n + 1) (nI s) (nI i) := by
  unfold wX_count_17
  refine br_f (nI_ge hi (by omega)) ⟨pk_in i 40 (by omega), ?_⟩
  rw [nI_clamp (by omega)]
  refine hB _ (pk_eq g 0 (fun z => nm_r (e' := nI (s + g)) ?_ (nm_r (e' := nI (i + 1)) (nI_1 i) H)) (fun z => nm_r (e' := nI (s + g)) ?_ (nm_r (e' := nI (i + 1)) (nI_1 i) H)))
  · rw [z]
    exact nI_add s 0
  · rw [show g = 1 by omega]
    exact nI_1 s
theorem zt_count {post : Int32 → St2 → Prop} {X : Int32} {g0 g1 g2 : Nat} (hr : ∀ ψ : Int32 → Prop, ψ 1 → wpX_isRow ψ () X) (h0 : g0 ≤ 1) (h1 : g1 ≤ 1) (h2 : g2 ≤ 1)
    (hB0 : ∀ ψ : Int32 → Prop, ψ (nI g0) → wpX_begins ψ () X (a9 0)) (hB1 : ∀ ψ : Int32 → Prop, ψ (nI g1) → wpX_begins ψ () X (a9 1)) (hB2 : ∀ ψ : Int32 → Prop, ψ (nI g2) → wpX_begins ψ () X (a9 2))
    (hp : post (nI (g0 + g1 + g2)) (f0, f1, f2, nI 3, 1, a1, a2, a3, a4, a5, a6, a7, a8, a9, a10, a11, a12)) : wpX_count post (f0, f1, f2, nI 3, 1, a1, a2, a3, a4, a5, a6, a7, a8, a9, a10, a11, a12) X := by
  unfold wpX_count
  refine hr _ (br_f (by decide) (zt_listed ⟨4, zt_cS (s := 0) (i := 0) (by omega) h0 hB0 (zt_cS (i := 1) (by omega) h1 hB1 (zt_cS (i := 2) (by omega) h2 hB2 ?_))⟩))
  rw [Nat.zero_add]
  unfold wX_count_17
  exact br_t (by decide) hp
theorem zt_uS {post : Int32 → St2 → Prop} {X x : Int32} {n i g : Nat} (hi : i < 3) (hg : g ≤ 1) (hB : ∀ ψ : Int32 → Prop, ψ (nI g) → wpX_begins ψ () X (a9 i))
    (H : wX_sum_17 post X f0 f1 f2 (nI 3) f4 a1 a2 a3 a4 a5 a6 a7 a8 a9 a10 a11 a12 n (x + (if g = 0 then 0 else a10 i)) (nI (i + 1))) : wX_sum_17 post X f0 f1 f2 (nI 3) f4 a1 a2 a3 a4 a5 a6 a7 a8 a9 a10 a11 a12 (n + 1) x (nI i) := by
  have ei : (nI i).toNatClampNeg = i := nI_clamp (by omega)
  unfold wX_sum_17
  refine br_f (nI_ge hi (by omega)) ⟨pk_in i 40 (by omega), ?_⟩
  rw [ei]
  refine hB _ (pk_eq g 0 (fun z => nm_r (e' := x + (if g = 0 then 0 else a10 i)) ?_ (nm_r (e' := nI (i + 1)) (nI_1 i) H)) (fun z => ⟨pk_in i 40 (by omega), nm_r (e' := x + (if g = 0 then 0 else a10 i)) ?_ (nm_r (e' := nI (i + 1)) (nI_1 i) H)⟩))
  · rw [if_pos z]
  · rw [if_neg z]
theorem zt_sum {post : Int32 → St2 → Prop} {X : Int32} {g0 g1 g2 : Nat} (hr : ∀ ψ : Int32 → Prop, ψ 1 → wpX_isRow ψ () X) (h0 : g0 ≤ 1) (h1 : g1 ≤ 1) (h2 : g2 ≤ 1)
    (hB0 : ∀ ψ : Int32 → Prop, ψ (nI g0) → wpX_begins ψ () X (a9 0)) (hB1 : ∀ ψ : Int32 → Prop, ψ (nI g1) → wpX_begins ψ () X (a9 1)) (hB2 : ∀ ψ : Int32 → Prop, ψ (nI g2) → wpX_begins ψ () X (a9 2))
    (hp : post (0 + (if g0 = 0 then 0 else a10 0) + (if g1 = 0 then 0 else a10 1) + (if g2 = 0 then 0 else a10 2)) (f0, f1, f2, nI 3, 1, a1, a2, a3, a4, a5, a6, a7, a8, a9, a10, a11, a12)) : wpX_sum post (f0, f1, f2, nI 3, 1, a1, a2, a3, a4, a5, a6, a7, a8, a9, a10, a11, a12) X := by
  unfold wpX_sum
  refine hr _ (br_f (by decide) (zt_listed ⟨4, zt_uS (i := 0) (by omega) h0 hB0 (zt_uS (i := 1) (by omega) h1 hB1 (zt_uS (i := 2) (by omega) h2 hB2 ?_))⟩))
  unfold wX_sum_17
  exact br_t (by decide) hp
/-- longest(v): v itself is held -/
theorem zt_longA {post : Int32 → Prop} {v : Nat} (h1 : 512 ≤ v) (h2 : v < 1024) (hf : ∀ ψ : Int32 → Prop, ψ (nI 4) → wpX_find ψ (f0, f1, f2, f3, f4, a1, a2, a3, a4, a5, a6, a7, a8, a9, a10, a11, a12) (nI v)) (h5 : a5 4 = 1) (hp : post (nI v)) : wpX_longest post (f0, f1, f2, f3, f4, a1, a2, a3, a4, a5, a6, a7, a8, a9, a10, a11, a12) (nI v) := by
  unfold wpX_longest
  exact zt_word3 h1 h2 (br_f (by decide) (zt_sz3 h1 (by omega) ⟨1, br_f (by decide) (nm_r (e' := nI v) (zt_sh 0 (by omega) (by decide +kernel) (by omega)) (hf _ (br_f (by decide) ⟨pk_in 4 488 (by omega), br_f (by rw [nI_clamp (by omega), h5]; decide) hp⟩)))⟩))
/-- longest(v): its two letters are held -/
theorem zt_longB {post : Int32 → Prop} {v w e : Nat} (h1 : 512 ≤ v) (h2 : v < 1024) (hw : v / 8 = w) (he : e < 488) (hf : ∀ ψ : Int32 → Prop, ψ (-1) → wpX_find ψ (f0, f1, f2, f3, f4, a1, a2, a3, a4, a5, a6, a7, a8, a9, a10, a11, a12) (nI v)) (hf2 : ∀ ψ : Int32 → Prop, ψ (nI e) → wpX_find ψ (f0, f1, f2, f3, f4, a1, a2, a3, a4, a5, a6, a7, a8, a9, a10, a11, a12) (nI w)) (h5 : a5 e = 1) (hp : post (nI w)) : wpX_longest post (f0, f1, f2, f3, f4, a1, a2, a3, a4, a5, a6, a7, a8, a9, a10, a11, a12) (nI v) := by
  unfold wpX_longest
  exact zt_word3 h1 h2 (br_f (by decide) (zt_sz3 h1 (by omega) ⟨2, br_f (by decide) (nm_r (e' := nI v) (zt_sh 0 (by omega) (by decide +kernel) (by omega)) (hf _ (br_t (by decide) (nm_r (e' := 2) (by decide)
    (br_f (by decide) (nm_r (e' := nI w) (zt_sh 3 (by omega) (by decide +kernel) (by omega)) (hf2 _ (br_f (nI_pos (by omega)) ⟨pk_in e 488 he, br_f (by rw [nI_clamp (by omega), h5]; decide) hp⟩))))))))⟩))
/-- longest(v): its first letter is held -/
theorem zt_longC {post : Int32 → Prop} {v w y e : Nat} (h1 : 512 ≤ v) (h2 : v < 1024) (hw : v / 8 = w) (hy : v / 64 = y) (he : e < 488) (hf : ∀ ψ : Int32 → Prop, ψ (-1) → wpX_find ψ (f0, f1, f2, f3, f4, a1, a2, a3, a4, a5, a6, a7, a8, a9, a10, a11, a12) (nI v)) (hf2 : ∀ ψ : Int32 → Prop, ψ (-1) → wpX_find ψ (f0, f1, f2, f3, f4, a1, a2, a3, a4, a5, a6, a7, a8, a9, a10, a11, a12) (nI w)) (hf3 : ∀ ψ : Int32 → Prop, ψ (nI e) → wpX_find ψ (f0, f1, f2, f3, f4, a1, a2, a3, a4, a5, a6, a7, a8, a9, a10, a11, a12) (nI y)) (h5 : a5 e = 1) (hp : post (nI y)) : wpX_longest post (f0, f1, f2, f3, f4, a1, a2, a3, a4, a5, a6, a7, a8, a9, a10, a11, a12) (nI v) := by
  unfold wpX_longest
  exact zt_word3 h1 h2 (br_f (by decide) (zt_sz3 h1 (by omega) ⟨3, br_f (by decide) (nm_r (e' := nI v) (zt_sh 0 (by omega) (by decide +kernel) (by omega)) (hf _ (br_t (by decide) (nm_r (e' := 2) (by decide)
    (br_f (by decide) (nm_r (e' := nI w) (zt_sh 3 (by omega) (by decide +kernel) (by omega)) (hf2 _ (br_t (by decide) (nm_r (e' := 1) (by decide)
      (br_f (by decide) (nm_r (e' := nI y) (zt_sh 6 (by omega) (by decide +kernel) (by omega)) (hf3 _ (br_f (nI_pos (by omega)) ⟨pk_in e 488 he, br_f (by rw [nI_clamp (by omega), h5]; decide) hp⟩)))))))))))))⟩))
/-- longest(v): nothing -/
theorem zt_longD {post : Int32 → Prop} {v w y : Nat} (h1 : 512 ≤ v) (h2 : v < 1024) (hw : v / 8 = w) (hy : v / 64 = y) (hf : ∀ ψ : Int32 → Prop, ψ (-1) → wpX_find ψ (f0, f1, f2, f3, f4, a1, a2, a3, a4, a5, a6, a7, a8, a9, a10, a11, a12) (nI v)) (hf2 : ∀ ψ : Int32 → Prop, ψ (-1) → wpX_find ψ (f0, f1, f2, f3, f4, a1, a2, a3, a4, a5, a6, a7, a8, a9, a10, a11, a12) (nI w)) (hf3 : ∀ ψ : Int32 → Prop, ψ (-1) → wpX_find ψ (f0, f1, f2, f3, f4, a1, a2, a3, a4, a5, a6, a7, a8, a9, a10, a11, a12) (nI y)) (hp : post (-2)) : wpX_longest post (f0, f1, f2, f3, f4, a1, a2, a3, a4, a5, a6, a7, a8, a9, a10, a11, a12) (nI v) := by
  unfold wpX_longest
  exact zt_word3 h1 h2 (br_f (by decide) (zt_sz3 h1 (by omega) ⟨4, br_f (by decide) (nm_r (e' := nI v) (zt_sh 0 (by omega) (by decide +kernel) (by omega)) (hf _ (br_t (by decide) (nm_r (e' := 2) (by decide)
    (br_f (by decide) (nm_r (e' := nI w) (zt_sh 3 (by omega) (by decide +kernel) (by omega)) (hf2 _ (br_t (by decide) (nm_r (e' := 1) (by decide)
      (br_f (by decide) (nm_r (e' := nI y) (zt_sh 6 (by omega) (by decide +kernel) (by omega)) (hf3 _ (br_t (by decide) (nm_r (e' := 0) (by decide) (br_t (by decide) hp)))))))))))))))⟩))
/-- two listed words: how many come before -/
theorem zt_rank {post : Int32 → St2 → Prop} {X : Int32} {ws vs : Nat → Int32} {g0 g1 : Nat} (hw : ∀ ψ : Int32 → Prop, ψ 1 → wpX_isWord ψ () X) (h0 : g0 ≤ 1) (h1 : g1 ≤ g0) (hL : zt_L (f0, f1, f2, f3, f4, a1, a2, a3, a4, a5, a6, a7, a8, a9, a10, a11, a12) f0 f1 f2 a1 a2 a3 a4 a5 a6 a7 2 ws vs)
    (hB0 : ∀ ψ : Int32 → Prop, ψ (nI g0) → wpX_comesBefore ψ () (ws 0) X) (hB1 : ∀ ψ : Int32 → Prop, ψ (nI g1) → wpX_comesBefore ψ () (ws 1) X)
    (H : ∀ u : St2, post (nI (g0 + g1)) u) : wpX_rank post (f0, f1, f2, f3, f4, a1, a2, a3, a4, a5, a6, a7, a8, a9, a10, a11, a12) X := by
  unfold wpX_rank
  refine hw _ (br_f (by decide) ?_)
  unfold wpX_placeOf
  refine hL _ (fun b8 b9 b10 b11 b12 ho => ⟨3, ?_⟩)
  have e0 := (ho 0 (by omega)).1
  have e1 := (ho 1 (by omega)).1
  refine br_f (by decide) (br_f (by decide) (nm_r (e' := nI 1) (by decide +kernel) ⟨pk_in 1 40 (by omega), ?_⟩))
  rw [nI_clamp (by omega), e1]
  refine hB1 _ (pk_eq g1 0 (fun z => nm_r (e' := 1) (by decide) ?_) (fun z => nm_r (e' := 2) (by decide) (nm_r (e' := 1) (by decide) ?_)))
  · refine br_f (by decide) (br_f (by decide) (nm_r (e' := nI 0) (by decide +kernel) ⟨pk_in 0 40 (by omega), ?_⟩))
    rw [nI_clamp (by omega), e0]
    refine hB0 _ (pk_eq g0 0 (fun y => nm_r (e' := 2) (by decide) ?_) (fun y => nm_r (e' := 1) (by decide) (nm_r (e' := 2) (by decide) ?_)))
    · refine br_f (by decide) (br_t (by decide) ?_)
      have h := H (f0, f1, f2, nI 2, 1, a1, a2, a3, a4, a5, a6, a7, b8, b9, b10, b11, b12)
      rw [z, y] at h
      exact h
    · refine br_f (by decide) (br_t (by decide) ?_)
      have h := H (f0, f1, f2, nI 2, 1, a1, a2, a3, a4, a5, a6, a7, b8, b9, b10, b11, b12)
      rw [z, show g0 = 1 by omega] at h
      exact h
  · refine br_f (by decide) (br_t (by decide) ?_)
    have h := H (f0, f1, f2, nI 2, 1, a1, a2, a3, a4, a5, a6, a7, b8, b9, b10, b11, b12)
    rw [show g1 = 1 by omega, show g0 = 1 by omega] at h
    exact h
end
end
section
/-! dropEntry, unlink, takeOut, remove -/
section
variable {f0 f1 f2 f3 f4 g0 g1 g2 g3 g4 k0 k1 k2 k3 k4 : Int32} {a1 a2 a3 a4 a5 a6 a7 a8 a9 a10 a11 a12 b1 b2 b3 b4 b5 b6 b7 b8 b9 b10 b11 b12 d1 d2 d3 d4 d5 d6 d7 d8 d9 d10 d11 d12 : Nat → Int32}
/-- the new order word of a drop -/
def zt_dw (o n k cl : Int32) : Int32 :=
  (((((o >>> ((4 : Int32) &&& 31)) &&& (((1 : Int32) <<< ((4 * k) &&& 31)) - 1)) ||| ((((o >>> ((4 : Int32) &&& 31)) >>> (((4 * k) + 4) &&& 31)) &&& (((1 : Int32) <<< ((4 * ((n - 1) - k)) &&& 31)) - 1)) <<< ((4 * k) &&& 31))) ||| (cl <<< ((4 * (n - 1)) &&& 31)) ||| (((o >>> ((4 : Int32) &&& 31)) >>> ((4 * n) &&& 31)) <<< ((4 * n) &&& 31))) <<< ((4 : Int32) &&& 31)) ||| (n - 1)
theorem zt_drop {post : St2 → Prop} {p0 W : Int32} {b n k : Nat} {c s : Nat → Nat} (h : zt_nd a1 a3 b n c s) (hk : k < n) (hl : ∀ i, i < k → s i < s k) (hW : zt_dw (a1 b) (nI n) (nI k) (nI (c k)) = W)
    (h1 : n = 1 → wpX_unlink post (f0, f1, f2, f3, f4, upd a1 b W, a2, a3, a4, a5, a6, a7, a8, a9, a10, a11, a12) p0 (nI b)) (h2 : n ≠ 1 → post (f0, f1, f2, f3, f4, upd a1 b W, a2, a3, a4, a5, a6, a7, a8, a9, a10, a11, a12)) : wpX_dropEntry post (f0, f1, f2, f3, f4, a1, a2, a3, a4, a5, a6, a7, a8, a9, a10, a11, a12) p0 (nI (4 * b + c k)) := by
  have hh := h
  obtain ⟨hb, hn, g1, g3⟩ := hh
  obtain ⟨c1, c2, c3, c4⟩ := g3 k hk
  have hb' : vp_in (nI b) 122 := pk_in b 122 hb
  have he : vp_in (nI (4 * b + c k)) 488 := pk_in (4 * b + c k) 488 (by omega)
  have eb : (nI b).toNatClampNeg = b := nI_clamp (by omega)
  have ee : (nI (4 * b + c k)).toNatClampNeg = 4 * b + c k := nI_clamp (by omega)
  have ed : nI (4 * b + c k) / 4 = nI b := by
    show nI (4 * b + c k) / nI 4 = _
    rw [pk_div (by omega) (by omega) (by omega), show (4 * b + c k) / 4 = b by omega]
  have er : nI (4 * b + c k) - nI (4 * b + c k) / 4 * 4 = nI (c k) := by
    show nI (4 * b + c k) - nI (4 * b + c k) / nI 4 * nI 4 = _
    rw [pk_rem (by omega) (by omega) (by omega), show (4 * b + c k) % 4 = c k by omega]
  have e3 : a3 (nI (4 * b + c k)).toNatClampNeg = nI (s k) := by rw [ee]; exact c3
  unfold wpX_dropEntry
  refine ⟨by decide, nm_r (e' := nI b) ed (zt_son hb g1 ⟨he, ?_⟩)⟩
  rw [e3]
  refine zt_les h (by omega) hl (fun _ => Nat.le_refl _) c4 ⟨hb', nm_r (e' := a1 b >>> ((4 : Int32) &&& 31)) (by rw [eb]) (nm_e (nm_e (nm_e ⟨by decide, nm_r (e' := nI (c k)) er (nm_e ⟨hb', nm_r (e' := upd a1 b W) (by rw [eb]; exact congrArg (upd a1 b) hW) ?_⟩)⟩)))⟩
  exact pk_eq n 1 (fun z => h1 z) (fun z => h2 z)
theorem zt_unlink {post : St2 → Prop} {e b m : Nat} (he : e < 488) (hb : b < 122) (hm : m < 122) (h6 : a6 e = nI b) (h2 : a2 b = -1) (hp : post (f0, nI (m + 1), f2, f3, f4, a1, a2, a3, a4, a5, upd a6 e (-1), upd a7 m (nI b), a8, a9, a10, a11, a12)) : wpX_unlink post (f0, nI m, f2, f3, f4, a1, a2, a3, a4, a5, a6, a7, a8, a9, a10, a11, a12) (nI e) (nI b) := by
  have eb : (nI b).toNatClampNeg = b := nI_clamp (by omega)
  have e2 : a2 (nI b).toNatClampNeg = -1 := by rw [eb]; exact h2
  unfold wpX_unlink
  refine br_f (zt_ne (by omega)) ⟨pk_in e 488 he, ?_⟩
  rw [nI_clamp (by omega), h6]
  unfold wX_unlink_18
  refine br_t rfl ⟨pk_in b 122 hb, ?_⟩
  rw [e2]
  refine zt_hd1 he ?_
  show wX_unlink_88 post (nI b) f0 (nI m) f2 f3 f4 a1 a2 a3 a4 a5 (upd a6 e (-1)) a7 a8 a9 a10 a11 a12
  unfold wX_unlink_88
  unfold wpX_giveNode
  exact ⟨pk_in m 122 hm, nm_r (e' := upd a7 m (nI b)) (by rw [nI_clamp (by omega)]) (nm_r (e' := nI (m + 1)) (nI_1 m) hp)⟩
/-- takeOut's second loop: the last entry goes, and node 1 with it -/
theorem zt_t1 {post : St2 → Prop} {n e t : Nat} (he : e < 488) (h8 : a8 0 = nI e) (h81 : a8 1 = nI 4) (h1 : a1 1 = 205057) (h2 : a2 1 = -1) (h3 : a3 4 = nI t) (ht : t < 1000) (h5 : a5 4 = 0) (h64 : a6 4 = -1) (h6 : a6 e = nI 1)
    (H : wX_takeOut_94 post n (nI 0) f0 (nI (120 + 1)) f2 f3 f4 (upd a1 1 205056) a2 a3 a4 a5 (upd a6 e (-1)) (upd a7 120 (nI 1)) a8 a9 a10 a11 a12) : wX_takeOut_94 post (n + 1) (nI 1) f0 (nI 120) f2 f3 f4 a1 a2 a3 a4 a5 a6 a7 a8 a9 a10 a11 a12 := by
  have e1 : (nI 1).toNatClampNeg = 1 := nI_clamp (by omega)
  have e4 : (nI 4).toNatClampNeg = 4 := nI_clamp (by omega)
  have hn : zt_nd a1 a3 1 1 (zt_f 0 0 0) (zt_f t 0 0) := zt_nd1 (by omega) h1 (by decide +kernel) h3 ht
  have h4 : vp_in (nI 4) 488 := pk_in 4 488 (by omega)
  have e0 : a8 (nI 1 - 1).toNatClampNeg = nI e := by
    rw [show nI 1 - 1 = nI 0 from nI_pred 0, nI_clamp (by omega)]
    exact h8
  unfold wX_takeOut_94
  refine br_f (by decide) ⟨pk_in 1 3 (by omega), nm_r (e' := nI 4) (by rw [e1]; exact h81) ⟨h4, br_t (by rw [e4]; exact h5) ⟨h4, br_t (by rw [e4]; exact h64) (br_f (by decide) ⟨vp_in_iff.mpr (by decide), ?_⟩)⟩⟩⟩
  rw [e0]
  unfold wX_takeOut_147
  exact zt_drop (k := 0) (W := 205056) hn (by omega) (fun i hi => absurd hi (by omega)) (by rw [h1]; decide +kernel) (fun _ => zt_unlink he (by omega) (by omega) h6 h2 (nm_r (e' := nI 0) (by decide) H)) (fun z => absurd rfl z)
/-- the entry above is held: it stays -/
theorem zt_t2h {post : St2 → Prop} {n e : Nat} (he : e < 488) (h8 : a8 0 = nI e) (h5 : a5 e = 1) (hp : post (f0, f1, f2, f3, f4, a1, a2, a3, a4, a5, a6, a7, a8, a9, a10, a11, a12)) : wX_takeOut_94 post (n + 2) (nI 0) f0 f1 f2 f3 f4 a1 a2 a3 a4 a5 a6 a7 a8 a9 a10 a11 a12 := by
  have e1 : (nI 0).toNatClampNeg = 0 := nI_clamp (by omega)
  have ee : (nI e).toNatClampNeg = e := nI_clamp (by omega)
  unfold wX_takeOut_94
  refine br_f (by decide) ⟨pk_in 0 3 (by omega), nm_r (e' := nI e) (by rw [e1]; exact h8) ⟨pk_in e 488 he, br_f (by rw [ee, h5]; decide) (nm_r (e' := -1) (by decide) ?_)⟩⟩
  exact br_t (by decide) hp
/-- the entry above is not held: it goes -/
theorem zt_t2n {post : St2 → Prop} {W : Int32} {n k m : Nat} {c s : Nat → Nat} (hn : zt_nd a1 a3 0 m c s) (hm : m ≠ 1) (hk : k < m) (hl : ∀ i, i < k → s i < s k) (hW : zt_dw (a1 0) (nI m) (nI k) (nI (c k)) = W)
    (h8 : a8 0 = nI (c k)) (h5 : a5 (c k) = 0) (h6 : a6 (c k) = -1) (hp : post (f0, f1, f2, f3, f4, upd a1 0 W, a2, a3, a4, a5, a6, a7, a8, a9, a10, a11, a12)) : wX_takeOut_94 post (n + 2) (nI 0) f0 f1 f2 f3 f4 a1 a2 a3 a4 a5 a6 a7 a8 a9 a10 a11 a12 := by
  have hc4 : c k < 4 := (hn.2.2.2 k hk).1
  have e1 : (nI 0).toNatClampNeg = 0 := nI_clamp (by omega)
  have ee : (nI (c k)).toNatClampNeg = c k := nI_clamp (by omega)
  have he : vp_in (nI (c k)) 488 := pk_in (c k) 488 (by omega)
  have h := zt_drop (post := fun u => match u with | (f0, f1, f2, f3, f4, a1, a2, a3, a4, a5, a6, a7, a8, a9, a10, a11, a12) => ∀ x : Int32, x = nI 0 + (-1) → wX_takeOut_94 post (n + 1) x f0 f1 f2 f3 f4 a1 a2 a3 a4 a5 a6 a7 a8 a9 a10 a11 a12) (p0 := -1) (W := W) hn hk hl hW (fun z => absurd z hm) (fun _ => nm_r (e' := -1) (by decide) (br_t (by decide) hp))
  rw [show 4 * 0 + c k = c k by omega] at h
  unfold wX_takeOut_94
  refine br_f (by decide) ⟨pk_in 0 3 (by omega), nm_r (e' := nI (c k)) (by rw [e1]; exact h8) ⟨he, br_t (by rw [ee]; exact h5) ⟨he, br_t (by rw [ee]; exact h6) (br_t rfl ?_)⟩⟩⟩
  unfold wX_takeOut_147
  exact h
theorem zt_take {post : St2 → Prop} {X : Int32} {s t e k : Nat} (hX : zt_two X s t) (he : e < 488) (hE : zt_E (f0, f1, nI (k + 1), f3, f4, a1, a2, a3, a4, a5, a6, a7, a8, a9, a10, a11, a12) f0 s (nI e)) (h6 : a6 e = nI 1) (hE2 : ∀ b8 : Nat → Int32, zt_E (f0, f1, nI (k + 1), f3, f4, a1, a2, a3, a4, a5, a6, a7, b8, a9, a10, a11, a12) (nI 1) t (nI 4)) (h64 : a6 4 = -1)
    (H : ∀ b8 : Nat → Int32, b8 0 = nI e → b8 1 = nI 4 → ∃ n, wX_takeOut_94 post n (nI 1) f0 f1 (nI k) f3 0 a1 a2 a3 a4 (upd a5 4 0) a6 a7 b8 a9 a10 a11 a12) : wpX_takeOut post (f0, f1, nI (k + 1), f3, f4, a1, a2, a3, a4, a5, a6, a7, a8, a9, a10, a11, a12) X := by
  have e0 : (0 : Int32).toNatClampNeg = 0 := nI_clamp (n := 0) (by omega)
  have e1 : (1 : Int32).toNatClampNeg = 1 := nI_clamp (n := 1) (by omega)
  have ee : (nI e).toNatClampNeg = e := nI_clamp (by omega)
  have e4 : (nI 4).toNatClampNeg = 4 := nI_clamp (by omega)
  have e21 : ((2 : Int32) - 1).toNatClampNeg = 1 := by decide +kernel
  have u0 : upd a8 0 (nI e) 0 = nI e := pk_us
  have u1 : upd (upd a8 0 (nI e)) 1 (nI 4) 1 = nI 4 := pk_us
  have u2 : upd (upd a8 0 (nI e)) 1 (nI 4) 0 = nI e := by
    rw [pk_un (by omega)]
    exact u0
  have i0 : vp_in (0 : Int32) 3 := pk_in 0 3 (by omega)
  have i1 : vp_in (1 : Int32) 3 := pk_in 1 3 (by omega)
  unfold wpX_takeOut
  refine hX.2.1 _ ⟨3, br_f (by decide) (hX.2.2.1 _ (hE _ ⟨i0, nm_r (e' := upd a8 0 (nI e)) (by rw [e0]) ⟨i0, by rw [e0, u0]; exact pk_in e 488 he, nm_r (e' := nI 1) (by rw [e0, u0, ee]; exact h6) (nm_r (e' := 1) (by decide) ?_)⟩⟩))⟩
  refine br_f (by decide) (hX.2.2.2 _ (hE2 _ _ ⟨i1, nm_r (e' := upd (upd a8 0 (nI e)) 1 (nI 4)) (by rw [e1]) ⟨i1, by rw [e1, u1]; exact pk_in 4 488 (by omega), nm_r (e' := -1) (by rw [e1, u1, e4]; exact h64) (nm_r (e' := 2) (by decide) ?_)⟩⟩))
  exact br_t (by decide) ⟨vp_in_iff.mpr (by decide), by rw [e21, u1]; exact pk_in 4 488 (by omega), nm_r (e' := upd a5 4 0) (by rw [e21, u1, e4]) (nm_r (e' := nI k) (nI_pred k) (nm_r (e' := nI 1) (by decide) (H _ u2 u1)))⟩
theorem zt_remove {post : Int32 → St2 → Prop} {X : Int32} (hw : ∀ ψ : Int32 → Prop, ψ 1 → wpX_isWord ψ () X) (hf : ∀ ψ : Int32 → Prop, ψ (nI 4) → wpX_find ψ (f0, f1, f2, f3, f4, a1, a2, a3, a4, a5, a6, a7, a8, a9, a10, a11, a12) X) (h5 : a5 4 = 1) (hT : wpX_takeOut (fun u => post 0 u) (f0, f1, f2, f3, f4, a1, a2, a3, a4, a5, a6, a7, a8, a9, a10, a11, a12) X) : wpX_remove post (f0, f1, f2, f3, f4, a1, a2, a3, a4, a5, a6, a7, a8, a9, a10, a11, a12) X := by
  unfold wpX_remove
  exact hw _ (br_f (by decide) (hf _ (br_f (by decide) ⟨pk_in 4 488 (by omega), br_f (by rw [nI_clamp (by omega), h5]; decide) hT⟩)))
end
end
section
/-! the state behind remove(v): two entries, top and u; longest and rank there -/
def zt_e (x y : Nat) : Nat := if x = y then 1 else 0
def zt_l (x y : Nat) : Nat := if x ≤ y then 1 else 0
def zt_g (x y z : Int32) : Nat → Int32
  | 0 => x
  | 1 => y
  | _ => z
theorem zt_e1 (x y : Nat) : zt_e x y ≤ 1 := by
  unfold zt_e
  split <;> omega
theorem zt_l1 (x y : Nat) : zt_l x y ≤ 1 := by
  unfold zt_l
  split <;> omega
theorem zt_nIe (x y : Nat) : (if x = y then (1 : Int32) else 0) = nI (zt_e x y) := by
  unfold zt_e
  split <;> rfl
theorem zt_nIl (x y : Nat) : (if x ≤ y then (1 : Int32) else 0) = nI (zt_l x y) := by
  unfold zt_l
  split <;> rfl
theorem zt_bgu {a b c : Nat} (ha : a < 8) (hb : b < 8) (hc : c < 8) (ψ : Int32 → Prop) (h : ψ (nI (zt_e a c))) : wpX_begins ψ () (nI (8 + c)) (nI (64 + 8 * a + b)) :=
  zt_bg2 ha hb hc (by rw [zt_nIe]; exact h)
theorem zt_bgv {p q r c : Nat} (hp : p < 8) (hq : q < 8) (hr : r < 8) (hc : c < 8) (ψ : Int32 → Prop) (h : ψ (nI (zt_e p c))) : wpX_begins ψ () (nI (8 + c)) (nI (512 + 64 * p + 8 * q + r)) :=
  zt_bg3 hp hq hr hc (by rw [zt_nIe]; exact h)
section
variable {f0 f1 f2 f3 f4 g0 g1 g2 g3 g4 k0 k1 k2 k3 k4 : Int32} {a1 a2 a3 a4 a5 a6 a7 a8 a9 a10 a11 a12 b1 b2 b3 b4 b5 b6 b7 b8 b9 b10 b11 b12 d1 d2 d3 d4 d5 d6 d7 d8 d9 d10 d11 d12 : Nat → Int32}
def zt_F4 (a1 a2 a3 a5 a6 : Nat → Int32) (c0 c1 s0 s1 : Nat) : Prop :=
  zt_nd a1 a3 0 2 (zt_f c0 c1 0) (zt_f s0 s1 0) ∧ s0 < s1 ∧ c0 < 4 ∧ c1 < 4 ∧ a2 0 = -1 ∧ a3 c0 = nI s0 ∧ a3 c1 = nI s1 ∧ a5 c0 = 1 ∧ a5 c1 = 1 ∧ a6 c0 = -1 ∧ a6 c1 = -1
theorem zt_f4a {c0 c1 s0 s1 : Nat} (h : zt_F4 a1 a2 a3 a5 a6 c0 c1 s0 s1) : zt_E (f0, f1, f2, f3, f4, a1, a2, a3, a4, a5, a6, a7, a8, a9, a10, a11, a12) (nI 0) s0 (nI c0) := by
  have g : zt_E (f0, f1, f2, f3, f4, a1, a2, a3, a4, a5, a6, a7, a8, a9, a10, a11, a12) (nI 0) (zt_f s0 s1 0 0) (nI (4 * 0 + zt_f c0 c1 0 0)) := zt_Ef (k := 0) h.1 h.2.2.2.2.1 (by omega) (fun i hi => absurd hi (by omega))
  rw [show 4 * 0 + zt_f c0 c1 0 0 = c0 by simp [zt_f]] at g
  exact g
theorem zt_f4b {c0 c1 s0 s1 : Nat} (h : zt_F4 a1 a2 a3 a5 a6 c0 c1 s0 s1) : zt_E (f0, f1, f2, f3, f4, a1, a2, a3, a4, a5, a6, a7, a8, a9, a10, a11, a12) (nI 0) s1 (nI c1) := by
  have g : zt_E (f0, f1, f2, f3, f4, a1, a2, a3, a4, a5, a6, a7, a8, a9, a10, a11, a12) (nI 0) (zt_f s0 s1 0 1) (nI (4 * 0 + zt_f c0 c1 0 1)) := zt_Ef (k := 1) h.1 h.2.2.2.2.1 (by omega) (lt_s lt_0 h.2.1)
  rw [show 4 * 0 + zt_f c0 c1 0 1 = c1 by simp [zt_f]] at g
  exact g
theorem zt_f4n {c0 c1 s0 s1 x : Nat} (h : zt_F4 a1 a2 a3 a5 a6 c0 c1 s0 s1) (hx : x < 1000) (h0 : x ≠ s0) (h1 : x ≠ s1) : zt_E (f0, f1, f2, f3, f4, a1, a2, a3, a4, a5, a6, a7, a8, a9, a10, a11, a12) (nI 0) x (-1) :=
  zt_En h.1 h.2.2.2.2.1 hx (lt_s (lt_s lt_0 (Ne.symm h0)) (Ne.symm h1))
theorem zt_f4v {X : Int32} {c0 c1 s0 s1 s t : Nat} (h : zt_F4 a1 a2 a3 a5 a6 c0 c1 s0 s1) (hX : zt_two X s t) (hs : s < 1000) (ψ : Int32 → Prop) (hp : ψ (-1)) : wpX_find ψ (nI 0, f1, f2, f3, f4, a1, a2, a3, a4, a5, a6, a7, a8, a9, a10, a11, a12) X := by
  have h' := h
  obtain ⟨_, _, k0, k1, _, _, _, _, _, g0, g1⟩ := h'
  by_cases z0 : s = s0
  · subst z0
    exact zt_find2 hX (by omega) (zt_f4a h) (by rw [g0]; exact zt_E0) (Or.inl rfl) hp
  · by_cases z1 : s = s1
    · subst z1
      exact zt_find2 hX (by omega) (zt_f4b h) (by rw [g1]; exact zt_E0) (Or.inl rfl) hp
    · exact zt_find2n hX (zt_f4n h hs z0 z1) hp
theorem zt_f4y {X : Int32} {c0 c1 s0 s1 s : Nat} (h : zt_F4 a1 a2 a3 a5 a6 c0 c1 s0 s1) (hX : zt_one X s) (hs : s = s0 ∨ s = s1) : ∃ e, e < 488 ∧ a5 e = 1 ∧ ∀ ψ : Int32 → Prop, ψ (nI e) → wpX_find ψ (nI 0, f1, f2, f3, f4, a1, a2, a3, a4, a5, a6, a7, a8, a9, a10, a11, a12) X := by
  have h' := h
  obtain ⟨_, _, k0, k1, _, _, _, g0, g1, _, _⟩ := h'
  rcases hs with z | z
  · subst z
    exact ⟨c0, by omega, g0, fun ψ hp => zt_find1 hX (zt_f4a h) (Or.inr (pk_in c0 488 (by omega))) hp⟩
  · subst z
    exact ⟨c1, by omega, g1, fun ψ hp => zt_find1 hX (zt_f4b h) (Or.inr (pk_in c1 488 (by omega))) hp⟩
theorem zt_f4x {X : Int32} {c0 c1 s0 s1 s : Nat} (h : zt_F4 a1 a2 a3 a5 a6 c0 c1 s0 s1) (hX : zt_one X s) (hs : s < 1000) (h0 : s ≠ s0) (h1 : s ≠ s1) (ψ : Int32 → Prop) (hp : ψ (-1)) : wpX_find ψ (nI 0, f1, f2, f3, f4, a1, a2, a3, a4, a5, a6, a7, a8, a9, a10, a11, a12) X :=
  zt_find1 hX (zt_f4n h hs h0 h1) (Or.inl rfl) hp
theorem zt_long4 {post : Int32 → Prop} {a b c p q r c0 c1 s0 s1 : Nat} (ha : a < 8) (hb : b < 8) (hc : c < 8) (hp : p < 8) (hq : q < 8) (hr : r < 8) (hF : zt_F4 a1 a2 a3 a5 a6 c0 c1 s0 s1)
    (hs : (s0 = 9 * (c + 1) ∧ s1 = 9 * (a + 1) + b + 1) ∨ (s0 = 9 * (a + 1) + b + 1 ∧ s1 = 9 * (c + 1)))
    (h : post (if 8 * p + q = 8 * a + b then nI (64 + 8 * a + b) else if p = c then nI (8 + c) else -2)) : wpX_longest post (nI 0, f1, f2, f3, f4, a1, a2, a3, a4, a5, a6, a7, a8, a9, a10, a11, a12) (nI (512 + 64 * p + 8 * q + r)) := by
  have hfv := zt_f4v (f1 := f1) (f2 := f2) (f3 := f3) (f4 := f4) (a4 := a4) (a7 := a7) (a8 := a8) (a9 := a9) (a10 := a10) (a11 := a11) (a12 := a12) hF (zt_two3 hp hq hr) (by omega)
  by_cases z : 8 * p + q = 8 * a + b
  · rw [if_pos z] at h
    obtain ⟨e, he, h5, hf⟩ := zt_f4y (f1 := f1) (f2 := f2) (f3 := f3) (f4 := f4) (a4 := a4) (a7 := a7) (a8 := a8) (a9 := a9) (a10 := a10) (a11 := a11) (a12 := a12) hF (zt_one2 hp hq) (by omega)
    exact zt_longB (by omega) (by omega) (by omega) he hfv hf h5 (by rw [show 64 + 8 * p + q = 64 + 8 * a + b by omega]; exact h)
  · rw [if_neg z] at h
    have hf2 := zt_f4x (f1 := f1) (f2 := f2) (f3 := f3) (f4 := f4) (a4 := a4) (a7 := a7) (a8 := a8) (a9 := a9) (a10 := a10) (a11 := a11) (a12 := a12) hF (zt_one2 hp hq) (by omega) (by omega) (by omega)
    by_cases y : p = c
    · rw [if_pos y] at h
      obtain ⟨e, he, h5, hf⟩ := zt_f4y (f1 := f1) (f2 := f2) (f3 := f3) (f4 := f4) (a4 := a4) (a7 := a7) (a8 := a8) (a9 := a9) (a10 := a10) (a11 := a11) (a12 := a12) hF (zt_one1 hp) (by omega)
      exact zt_longC (by omega) (by omega) (by omega) (by omega) he hfv hf2 hf h5 (by rw [y]; exact h)
    · rw [if_neg y] at h
      have hf3 := zt_f4x (f1 := f1) (f2 := f2) (f3 := f3) (f4 := f4) (a4 := a4) (a7 := a7) (a8 := a8) (a9 := a9) (a10 := a10) (a11 := a11) (a12 := a12) hF (zt_one1 hp) (by omega) (by omega) (by omega)
      exact zt_longD (by omega) (by omega) (by omega) (by omega) hfv hf2 hf3 h
theorem zt_list4 {c0 c1 s0 s1 : Nat} {x0 x1 : Int32} (hF : zt_F4 a1 a2 a3 a5 a6 c0 c1 s0 s1)
    (hw0 : ∀ (ψ : Int32 → Prop) (f3 : Int32) (a8 a9 a10 a11 a12 : Nat → Int32), a8 0 = nI c0 → ψ x0 → wpX_wordOf ψ (nI 0, f1, f2, f3, 1, a1, a2, a3, a4, a5, a6, a7, a8, a9, a10, a11, a12) (nI 0))
    (hw1 : ∀ (ψ : Int32 → Prop) (f3 : Int32) (a8 a9 a10 a11 a12 : Nat → Int32), a8 0 = nI c1 → ψ x1 → wpX_wordOf ψ (nI 0, f1, f2, f3, 1, a1, a2, a3, a4, a5, a6, a7, a8, a9, a10, a11, a12) (nI 0)) :
    zt_L (nI 0, f1, f2, f3, 0, a1, a2, a3, a4, a5, a6, a7, a8, a9, a10, a11, a12) (nI 0) f1 f2 a1 a2 a3 a4 a5 a6 a7 2 (zt_g x0 x1 0) (zt_g (a4 c0) (a4 c1) 0) := by
  obtain ⟨hn, _, k0, k1, h2, _, _, g0, g1, j0, j1⟩ := hF
  intro ψ H
  have h1 := hn.2.2.1
  have hc0 := (hn.2.2.2 0 (by omega)).2.1
  have hc1 := (hn.2.2.2 1 (by omega)).2.1
  exact zt_list (n := 5) (zt_vA (n := 4) (c := c0) (by omega) h1 (by omega) (by omega) k0 hc0 g0 j0 (by omega) rfl (fun ψ a8 a9 a10 a11 a12 h8 hψ => hw0 ψ _ _ _ _ _ _ h8 hψ)
    (zt_vA (n := 3) (c := c1) (by omega) h1 (by omega) (by omega) k1 hc1 g1 j1 (by omega) rfl (fun ψ a8 a9 a10 a11 a12 h8 hψ => hw1 ψ _ _ _ _ _ _ h8 hψ)
      (zt_vX (n := 0) (by omega) h1 h2 (fun a8 a9 a10 a11 a12 ho => H _ _ _ _ _ ho))))
theorem zt_rank4 {post : Int32 → St2 → Prop} {a b c p q r c0 c1 s0 s1 : Nat} (ha : a < 8) (hb : b < 8) (hc : c < 8) (hp : p < 8) (hq : q < 8) (hr : r < 8) (hF : zt_F4 a1 a2 a3 a5 a6 c0 c1 s0 s1)
    (hs : (s0 = 9 * (c + 1) ∧ s1 = 9 * (a + 1) + b + 1) ∨ (s0 = 9 * (a + 1) + b + 1 ∧ s1 = 9 * (c + 1)))
    (H : ∀ u : St2, post (nI (zt_l (8 * a + b) (8 * p + q) + zt_l c p)) u) : wpX_rank post (nI 0, f1, f2, f3, 0, a1, a2, a3, a4, a5, a6, a7, a8, a9, a10, a11, a12) (nI (512 + 64 * p + 8 * q + r)) := by
  have eu : zt_l (9 * (a + 1) + b + 1) (9 * (p + 1) + q + 1) = zt_l (8 * a + b) (8 * p + q) := by
    unfold zt_l
    split <;> split <;> omega
  have et : zt_l (9 * (c + 1)) (9 * (p + 1) + q + 1) = zt_l c p := by
    unfold zt_l
    split <;> split <;> omega
  have h' := hF
  obtain ⟨hn, hlt, k0, k1, h2, i0, i1, g0, g1, j0, j1⟩ := h'
  have cu : ∀ ψ : Int32 → Prop, ψ (nI (zt_l (9 * (a + 1) + b + 1) (9 * (p + 1) + q + 1))) → wpX_comesBefore ψ () (nI (64 + 8 * a + b)) (nI (512 + 64 * p + 8 * q + r)) := fun ψ h => zt_cb (zt_one2 ha hb) (zt_two3 hp hq hr) (by omega) (by omega) (by rw [zt_nIl]; exact h)
  have ct : ∀ ψ : Int32 → Prop, ψ (nI (zt_l (9 * (c + 1)) (9 * (p + 1) + q + 1))) → wpX_comesBefore ψ () (nI (8 + c)) (nI (512 + 64 * p + 8 * q + r)) := fun ψ h => zt_cb (zt_one1 hc) (zt_two3 hp hq hr) (by omega) (by omega) (by rw [zt_nIl]; exact h)
  rcases hs with ⟨z0, z1⟩ | ⟨z0, z1⟩
  · subst z0 z1
    refine zt_rank (zt_two3 hp hq hr).1 (g0 := zt_l (9 * (c + 1)) (9 * (p + 1) + q + 1)) (g1 := zt_l (9 * (a + 1) + b + 1) (9 * (p + 1) + q + 1)) (zt_l1 _ _) ?_ (zt_list4 (x0 := nI (8 + c)) (x1 := nI (64 + 8 * a + b)) hF (fun ψ _ _ _ _ _ _ h8 hψ => zt_word1of (by omega) h8 i0 hc hψ) (fun ψ _ _ _ _ _ _ h8 hψ => zt_word2of (by omega) h8 i1 ha hb hψ)) ct cu ?_
    · unfold zt_l
      split <;> split <;> omega
    · rw [eu, et, Nat.add_comm]
      exact H
  · subst z0 z1
    refine zt_rank (zt_two3 hp hq hr).1 (g0 := zt_l (9 * (a + 1) + b + 1) (9 * (p + 1) + q + 1)) (g1 := zt_l (9 * (c + 1)) (9 * (p + 1) + q + 1)) (zt_l1 _ _) ?_ (zt_list4 (x0 := nI (64 + 8 * a + b)) (x1 := nI (8 + c)) hF (fun ψ _ _ _ _ _ _ h8 hψ => zt_word2of (by omega) h8 i0 ha hb hψ) (fun ψ _ _ _ _ _ _ h8 hψ => zt_word1of (by omega) h8 i1 hc hψ)) cu ct ?_
    · unfold zt_l
      split <;> split <;> omega
    · rw [eu, et]
      exact H
end
end
section
/-! the law behind its three puts -/
section
variable {f0 f1 f2 f3 f4 g0 g1 g2 g3 g4 k0 k1 k2 k3 k4 : Int32} {a1 a2 a3 a4 a5 a6 a7 a8 a9 a10 a11 a12 b1 b2 b3 b4 b5 b6 b7 b8 b9 b10 b11 b12 d1 d2 d3 d4 d5 d6 d7 d8 d9 d10 d11 d12 : Nat → Int32}
theorem zt_353 {post : Int32 → St0 → Prop} {mc ms kc ks g p q r c : Nat} (hp : p < 8) (hq : q < 8) (hr : r < 8) (hc : c < 8) (h : post 1 ()) : wL_lawOf_353 post mc ms (nI (512 + 64 * p + 8 * q + r)) (nI (8 + c)) (nI g) (nI (g + zt_l c p)) kc ks := by
  have ev : nI (512 + 64 * p + 8 * q + r) >>> ((6 : Int32) &&& 31) = nI (8 + p) := zt_sh 6 (by omega) (by decide +kernel) (by omega)
  unfold wL_lawOf_353
  rw [ev]
  refine pk_lt (8 + p) (8 + c) (fun z => ?_) (fun z => ?_)
  · unfold wL_lawOf_368 zt_l
    rw [if_neg (by omega)]
    exact br_t (nI_add g 0).symm h
  · unfold wL_lawOf_368 zt_l
    rw [if_pos (by omega)]
    exact br_t (nI_1 g).symm h
theorem zt_331 {post : Int32 → St0 → Prop} {mc ms kc ks a b c p q r c0 c1 s0 s1 : Nat} {x9 Z : Int32} (ha : a < 8) (hb : b < 8) (hc : c < 8) (hp : p < 8) (hq : q < 8) (hr : r < 8) (hF : zt_F4 a1 a2 a3 a5 a6 c0 c1 s0 s1)
    (hs : (s0 = 9 * (c + 1) ∧ s1 = 9 * (a + 1) + b + 1) ∨ (s0 = 9 * (a + 1) + b + 1 ∧ s1 = 9 * (c + 1))) (h9 : x9 = nI (zt_l (8 * a + b) (8 * p + q))) (h : post 1 ()) :
    wL_lawOf_331 post mc ms (nI (512 + 64 * p + 8 * q + r)) (nI (8 + c)) x9 Z Z kc ks (nI 0) f1 f2 f3 0 a1 a2 a3 a4 a5 a6 a7 a8 a9 a10 a11 a12 := by
  have hl := zt_l1 (8 * a + b) (8 * p + q)
  unfold wL_lawOf_331
  refine br_t rfl (zt_rank4 ha hb hc hp hq hr hF hs (fun u => ?_))
  obtain ⟨u0, u1, u2, u3, u4, w1, w2, w3, w4, w5, w6, w7, w8, w9, w10, w11, w12⟩ := u
  refine pk_eq (zt_l (8 * a + b) (8 * p + q)) 0 (fun z => ?_) (fun z => ?_) h9
  · rw [z]
    exact zt_353 (g := 0) hp hq hr hc h
  · rw [show zt_l (8 * a + b) (8 * p + q) = 1 by omega]
    exact zt_353 (g := 1) hp hq hr hc h
theorem zt_300 {post : Int32 → St0 → Prop} {mc ms kc ks a b c p q r c0 c1 s0 s1 : Nat} {x8 x9 z0 : Int32} (ha : a < 8) (hb : b < 8) (hc : c < 8) (hp : p < 8) (hq : q < 8) (hr : r < 8) (hF : zt_F4 a1 a2 a3 a5 a6 c0 c1 s0 s1)
    (hs : (s0 = 9 * (c + 1) ∧ s1 = 9 * (a + 1) + b + 1) ∨ (s0 = 9 * (a + 1) + b + 1 ∧ s1 = 9 * (c + 1))) (h8 : x8 = nI (zt_e (8 * p + q) (8 * a + b))) (h9 : x9 = nI (zt_l (8 * a + b) (8 * p + q))) (hz : z0 = nI (zt_e p c)) (h : post 1 ()) :
    wL_lawOf_300 post mc ms (nI (64 + 8 * a + b)) (nI (512 + 64 * p + 8 * q + r)) (nI (8 + c)) x8 x9 z0 kc ks (nI 0) f1 f2 f3 0 a1 a2 a3 a4 a5 a6 a7 a8 a9 a10 a11 a12 := by
  unfold wL_lawOf_300
  refine zt_long4 ha hb hc hp hq hr hF hs ?_
  unfold zt_e at h8 hz
  by_cases z : 8 * p + q = 8 * a + b
  · rw [if_pos z] at h8
    rw [if_pos z]
    exact br_f (by rw [h8]; decide) (zt_331 ha hb hc hp hq hr hF hs h9 h)
  · rw [if_neg z] at h8
    rw [if_neg z]
    refine br_t h8 ?_
    by_cases y : p = c
    · rw [if_pos y] at hz
      rw [if_pos y]
      exact br_f (by rw [hz]; decide) (zt_331 ha hb hc hp hq hr hF hs h9 h)
    · rw [if_neg y] at hz
      rw [if_neg y]
      exact br_t hz (zt_331 ha hb hc hp hq hr hF hs h9 h)
/-- the scene ahead of remove(v) -/
def zt_Sc2 (a b c p q r : Nat) (a1 a2 a3 a4 a5 a6 a7 : Nat → Int32) : Prop :=
  a5 4 = 1 ∧ (∀ (f3 f4 : Int32) (a8 a9 a10 a11 a12 : Nat → Int32) (ψ : Int32 → Prop), ψ (nI 4) → wpX_find ψ (nI 0, nI 120, nI 3, f3, f4, a1, a2, a3, a4, a5, a6, a7, a8, a9, a10, a11, a12) (nI (512 + 64 * p + 8 * q + r))) ∧
  (∀ (f3 f4 : Int32) (a8 a9 a10 a11 a12 : Nat → Int32) (ψ : Int32 → St2 → Prop),
    (∀ (b1 b5 b6 b7 b8 : Nat → Int32) (c0 c1 s0 s1 : Nat), zt_F4 b1 a2 a3 b5 b6 c0 c1 s0 s1 → ((s0 = 9 * (c + 1) ∧ s1 = 9 * (a + 1) + b + 1) ∨ (s0 = 9 * (a + 1) + b + 1 ∧ s1 = 9 * (c + 1))) → ψ 0 (nI 0, nI 121, nI 2, f3, 0, b1, a2, a3, a4, b5, b6, b7, b8, a9, a10, a11, a12)) →
    wpX_remove ψ (nI 0, nI 120, nI 3, f3, f4, a1, a2, a3, a4, a5, a6, a7, a8, a9, a10, a11, a12) (nI (512 + 64 * p + 8 * q + r)))
/-- the scene ahead of first() -/
def zt_Sc1 (a b c p q r : Nat) (val : Int32) (a1 a2 a3 a4 a5 a6 a7 : Nat → Int32) (x0 x1 x2 y0 y1 y2 : Int32) (g0 g1 g2 : Nat) : Prop :=
  (∀ (f3 : Int32) (a8 a9 a10 a11 a12 : Nat → Int32), zt_L (nI 0, nI 120, nI 3, f3, 0, a1, a2, a3, a4, a5, a6, a7, a8, a9, a10, a11, a12) (nI 0) (nI 120) (nI 3) a1 a2 a3 a4 a5 a6 a7 3 (zt_g x0 x1 x2) (zt_g y0 y1 y2)) ∧
  x0 = (if 8 * a + b ≤ 8 * p + q then (if c ≤ a then nI (8 + c) else nI (64 + 8 * a + b)) else (if c ≤ p then nI (8 + c) else nI (512 + 64 * p + 8 * q + r))) ∧
  g0 ≤ 1 ∧ g1 ≤ 1 ∧ g2 ≤ 1 ∧
  (∀ ψ : Int32 → Prop, ψ (nI g0) → wpX_begins ψ () (nI (8 + c)) x0) ∧ (∀ ψ : Int32 → Prop, ψ (nI g1) → wpX_begins ψ () (nI (8 + c)) x1) ∧ (∀ ψ : Int32 → Prop, ψ (nI g2) → wpX_begins ψ () (nI (8 + c)) x2) ∧
  g0 + g1 + g2 = 1 + zt_e a c + zt_e p c ∧
  0 + (if g0 = 0 then 0 else y0) + (if g1 = 0 then 0 else y1) + (if g2 = 0 then 0 else y2) = -2 + (if a = c then 5 else 0) + (if p = c then val else 0)
theorem zt_255 {post : Int32 → St0 → Prop} {mc ms kc ks a b c p q r : Nat} {x8 x9 z0 z1 z2 : Int32} (ha : a < 8) (hb : b < 8) (hc : c < 8) (hp : p < 8) (hq : q < 8) (hr : r < 8) (hS : zt_Sc2 a b c p q r a1 a2 a3 a4 a5 a6 a7)
    (h8 : x8 = nI (zt_e (8 * p + q) (8 * a + b))) (h9 : x9 = nI (zt_l (8 * a + b) (8 * p + q))) (hz : z2 = z1 + z0) (h : post 1 ()) :
    wL_lawOf_255 post mc ms (nI (64 + 8 * a + b)) (nI (512 + 64 * p + 8 * q + r)) (nI (8 + c)) x8 x9 z0 z1 z2 kc ks (nI 0) (nI 120) (nI 3) f3 f4 a1 a2 a3 a4 a5 a6 a7 a8 a9 a10 a11 a12 := by
  obtain ⟨h5, hf, hR⟩ := hS
  have ev : nI (512 + 64 * p + 8 * q + r) >>> ((6 : Int32) &&& 31) = nI (8 + p) := zt_sh 6 (by omega) (by decide +kernel) (by omega)
  unfold wL_lawOf_255
  refine br_t hz (zt_longA (by omega) (by omega) (hf _ _ _ _ _ _ _) h5 (br_t rfl (hR _ _ _ _ _ _ _ _ (fun b1 b5 b6 b7 b8 c0 c1 s0 s1 hF hs => br_t rfl ?_))))
  refine pk_eq (8 + p) (8 + c) (fun z => zt_300 ha hb hc hp hq hr hF hs h8 h9 ?_ h) (fun z => zt_300 ha hb hc hp hq hr hF hs h8 h9 ?_ h) ev
  · unfold zt_e
    rw [if_pos (by omega)]
    rfl
  · unfold zt_e
    rw [if_neg (by omega)]
    rfl
theorem zt_239 {post : Int32 → St0 → Prop} {mc ms kc ks a b c p q r : Nat} {val x8 x9 z0 z1 z2 : Int32} (ha : a < 8) (hb : b < 8) (hc : c < 8) (hp : p < 8) (hq : q < 8) (hr : r < 8) (hS : zt_Sc2 a b c p q r a1 a2 a3 a4 a5 a6 a7)
    (h8 : x8 = nI (zt_e (8 * p + q) (8 * a + b))) (h9 : x9 = nI (zt_l (8 * a + b) (8 * p + q))) (hz : z2 = z1 + z0 + (if p = c then val else 0)) (h : post 1 ()) :
    wL_lawOf_239 post mc ms val (nI (64 + 8 * a + b)) (nI (512 + 64 * p + 8 * q + r)) (nI (8 + c)) x8 x9 z0 z1 z2 kc ks (nI 0) (nI 120) (nI 3) f3 f4 a1 a2 a3 a4 a5 a6 a7 a8 a9 a10 a11 a12 := by
  have ev : nI (512 + 64 * p + 8 * q + r) >>> ((6 : Int32) &&& 31) = nI (8 + p) := zt_sh 6 (by omega) (by decide +kernel) (by omega)
  unfold wL_lawOf_239
  refine pk_eq (8 + p) (8 + c) (fun z => zt_255 ha hb hc hp hq hr hS h8 h9 ?_ h) (fun z => zt_255 ha hb hc hp hq hr hS h8 h9 ?_ h) ev
  · rw [hz, if_pos (by omega)]
  · rw [hz, if_neg (by omega)]
theorem zt_197 {post : Int32 → St0 → Prop} {mc ms kc ks a b c p q r g0 g1 g2 : Nat} {val x8 x9 z0 z1 x0 x1 x2 y0 y1 y2 : Int32} (ha : a < 8) (hb : b < 8) (hc : c < 8) (hp : p < 8) (hq : q < 8) (hr : r < 8) (hS1 : zt_Sc1 a b c p q r val a1 a2 a3 a4 a5 a6 a7 x0 x1 x2 y0 y1 y2 g0 g1 g2) (hS : zt_Sc2 a b c p q r a1 a2 a3 a4 a5 a6 a7)
    (ho : ∀ k, k < 3 → a9 k = zt_g x0 x1 x2 k ∧ a10 k = zt_g y0 y1 y2 k)
    (h8 : x8 = nI (zt_e (8 * p + q) (8 * a + b))) (h9 : x9 = nI (zt_l (8 * a + b) (8 * p + q))) (hz0 : z0 = nI (zt_e p c)) (hz1 : z1 = nI (zt_e a c)) (h : post 1 ()) :
    wL_lawOf_197 post mc ms val (nI (64 + 8 * a + b)) (nI (512 + 64 * p + 8 * q + r)) (nI (8 + c)) x8 x9 z0 z1 kc ks (nI 0) (nI 120) (nI 3) (nI 3) 1 a1 a2 a3 a4 a5 a6 a7 a8 a9 a10 a11 a12 := by
  obtain ⟨_, _, k0, k1, k2, B0, B1, B2, hC, hU⟩ := hS1
  have eu : nI (64 + 8 * a + b) >>> ((3 : Int32) &&& 31) = nI (8 + a) := zt_sh 3 (by omega) (by decide +kernel) (by omega)
  have hrow : ∀ ψ : Int32 → Prop, ψ 1 → wpX_isRow ψ () (nI (8 + c)) := fun ψ hψ => zt_row1 (by omega) (by omega) hψ
  have n0 : a9 0 = x0 := (ho 0 (by omega)).1
  have n1 : a9 1 = x1 := (ho 1 (by omega)).1
  have n2 : a9 2 = x2 := (ho 2 (by omega)).1
  have m0 : a10 0 = y0 := (ho 0 (by omega)).2
  have m1 : a10 1 = y1 := (ho 1 (by omega)).2
  have m2 : a10 2 = y2 := (ho 2 (by omega)).2
  rw [← n0] at B0
  rw [← n1] at B1
  rw [← n2] at B2
  rw [← m0, ← m1, ← m2] at hU
  unfold wL_lawOf_197
  refine nm_r (e' := nI (zt_e a c + zt_e p c)) (by rw [hz0, hz1, nI_add]) (zt_count hrow k0 k1 k2 B0 B1 B2 (br_t ?_ (zt_sum hrow k0 k1 k2 B0 B1 B2 ?_)))
  · rw [hC]
    show _ = nI 1 + nI (zt_e a c + zt_e p c)
    rw [nI_add, Nat.add_assoc]
  · rw [hU]
    refine pk_eq (8 + a) (8 + c) (fun z => zt_239 ha hb hc hp hq hr hS h8 h9 ?_ h) (fun z => zt_239 ha hb hc hp hq hr hS h8 h9 ?_ h) eu
    · rw [if_pos (show a = c by omega)]
    · rw [if_neg (show ¬ a = c by omega)]
theorem zt_163 {post : Int32 → St0 → Prop} {mc ms kc ks a b c p q r g0 g1 g2 : Nat} {val x8 x9 Z x0 x1 x2 y0 y1 y2 : Int32} (ha : a < 8) (hb : b < 8) (hc : c < 8) (hp : p < 8) (hq : q < 8) (hr : r < 8) (hS1 : zt_Sc1 a b c p q r val a1 a2 a3 a4 a5 a6 a7 x0 x1 x2 y0 y1 y2 g0 g1 g2) (hS : zt_Sc2 a b c p q r a1 a2 a3 a4 a5 a6 a7)
    (ho : ∀ k, k < 3 → a9 k = zt_g x0 x1 x2 k ∧ a10 k = zt_g y0 y1 y2 k)
    (h8 : x8 = nI (zt_e (8 * p + q) (8 * a + b))) (h9 : x9 = nI (zt_l (8 * a + b) (8 * p + q))) (h : post 1 ()) :
    wL_lawOf_163 post mc ms val (nI (64 + 8 * a + b)) (nI (512 + 64 * p + 8 * q + r)) (nI (8 + c)) x8 x9 Z Z kc ks (nI 0) (nI 120) (nI 3) (nI 3) 1 a1 a2 a3 a4 a5 a6 a7 a8 a9 a10 a11 a12 := by
  have eu : nI (64 + 8 * a + b) >>> ((3 : Int32) &&& 31) = nI (8 + a) := zt_sh 3 (by omega) (by decide +kernel) (by omega)
  have ev : nI (512 + 64 * p + 8 * q + r) >>> ((6 : Int32) &&& 31) = nI (8 + p) := zt_sh 6 (by omega) (by decide +kernel) (by omega)
  have key : ∀ z1 : Int32, z1 = nI (zt_e a c) → wL_lawOf_182 post mc ms val (nI (64 + 8 * a + b)) (nI (512 + 64 * p + 8 * q + r)) (nI (8 + c)) x8 x9 z1 kc ks (nI 0) (nI 120) (nI 3) (nI 3) 1 a1 a2 a3 a4 a5 a6 a7 a8 a9 a10 a11 a12 := by
    intro z1 e1
    unfold wL_lawOf_182
    refine pk_eq (8 + p) (8 + c) (fun z => zt_197 ha hb hc hp hq hr hS1 hS ho h8 h9 ?_ e1 h) (fun z => zt_197 ha hb hc hp hq hr hS1 hS ho h8 h9 ?_ e1 h) ev
    · unfold zt_e
      rw [if_pos (by omega)]
      rfl
    · unfold zt_e
      rw [if_neg (by omega)]
      rfl
  unfold wL_lawOf_163
  refine br_t rfl (pk_eq (8 + a) (8 + c) (fun z => key _ ?_) (fun z => key _ ?_) eu)
  · unfold zt_e
    rw [if_pos (by omega)]
    rfl
  · unfold zt_e
    rw [if_neg (by omega)]
    rfl
theorem zt_144 {post : Int32 → St0 → Prop} {mc ms kc ks a b c p q r g0 g1 g2 : Nat} {val x8 x9 x10 z0 x0 x1 x2 y0 y1 y2 : Int32} (ha : a < 8) (hb : b < 8) (hc : c < 8) (hp : p < 8) (hq : q < 8) (hr : r < 8) (hS1 : zt_Sc1 a b c p q r val a1 a2 a3 a4 a5 a6 a7 x0 x1 x2 y0 y1 y2 g0 g1 g2) (hS : zt_Sc2 a b c p q r a1 a2 a3 a4 a5 a6 a7)
    (h8 : x8 = nI (zt_e (8 * p + q) (8 * a + b))) (h9 : x9 = nI (zt_l (8 * a + b) (8 * p + q))) (hx : (z0 = 0 ∧ x0 = x10) ∨ (z0 = 1 ∧ x0 = nI (8 + c))) (h : post 1 ()) :
    wL_lawOf_144 post mc ms val (nI (64 + 8 * a + b)) (nI (512 + 64 * p + 8 * q + r)) (nI (8 + c)) x8 x9 x10 z0 kc ks (nI 0) (nI 120) (nI 3) f3 0 a1 a2 a3 a4 a5 a6 a7 a8 a9 a10 a11 a12 := by
  unfold wL_lawOf_144
  refine zt_first (by omega) (by omega) (hS1.1 _ _ _ _ _ _) (fun b8 b9 b10 b11 b12 ho => ?_)
  rcases hx with ⟨e, ex⟩ | ⟨e, ex⟩
  · refine br_t e ?_
    rw [← ex]
    exact zt_163 ha hb hc hp hq hr hS1 hS ho h8 h9 h
  · refine br_f (by rw [e]; decide) ?_
    have e3 : zt_g x0 x1 x2 0 = nI (8 + c) := ex
    rw [e3]
    exact zt_163 ha hb hc hp hq hr hS1 hS ho h8 h9 h
theorem zt_85 {post : Int32 → St0 → Prop} {mc ms kc ks a b c p q r g0 g1 g2 : Nat} {val x8 x0 x1 x2 y0 y1 y2 : Int32} (ha : a < 8) (hb : b < 8) (hc : c < 8) (hp : p < 8) (hq : q < 8) (hr : r < 8) (hS1 : zt_Sc1 a b c p q r val a1 a2 a3 a4 a5 a6 a7 x0 x1 x2 y0 y1 y2 g0 g1 g2) (hS : zt_Sc2 a b c p q r a1 a2 a3 a4 a5 a6 a7)
    (h8 : x8 = nI (zt_e (8 * p + q) (8 * a + b))) (h : post 1 ()) :
    wL_lawOf_85 post mc ms val (nI (64 + 8 * a + b)) (nI (512 + 64 * p + 8 * q + r)) (nI (8 + c)) x8 kc ks (nI 0) (nI 120) (nI 3) f3 0 a1 a2 a3 a4 a5 a6 a7 a8 a9 a10 a11 a12 := by
  have eu : nI (64 + 8 * a + b) >>> ((3 : Int32) &&& 31) = nI (8 + a) := zt_sh 3 (by omega) (by decide +kernel) (by omega)
  have ev : nI (512 + 64 * p + 8 * q + r) >>> ((6 : Int32) &&& 31) = nI (8 + p) := zt_sh 6 (by omega) (by decide +kernel) (by omega)
  have ew : nI (512 + 64 * p + 8 * q + r) >>> ((3 : Int32) &&& 31) = nI (64 + 8 * p + q) := zt_sh 3 (by omega) (by decide +kernel) (by omega)
  have ex := hS1.2.1
  unfold wL_lawOf_85
  refine pk_lt (64 + 8 * p + q) (64 + 8 * a + b) (fun z => ?_) (fun z => ?_) ew
  · rw [if_neg (by omega)] at ex
    have h9 : (0 : Int32) = nI (zt_l (8 * a + b) (8 * p + q)) := by
      unfold zt_l
      rw [if_neg (by omega)]
      rfl
    unfold wL_lawOf_101
    refine br_t rfl ?_
    unfold wL_lawOf_115
    refine pk_le (512 + 64 * p + 8 * q + r) 511 (fun y => absurd y (by omega)) (fun _ => ?_)
    unfold wL_lawOf_135
    refine pk_lt (8 + p) (8 + c) (fun y => ?_) (fun y => ?_) ev
    · rw [if_neg (by omega)] at ex
      exact zt_144 ha hb hc hp hq hr hS1 hS h8 h9 (Or.inl ⟨rfl, ex⟩) h
    · rw [if_pos (by omega)] at ex
      exact zt_144 ha hb hc hp hq hr hS1 hS h8 h9 (Or.inr ⟨rfl, ex⟩) h
  · rw [if_pos (by omega)] at ex
    have h9 : (1 : Int32) = nI (zt_l (8 * a + b) (8 * p + q)) := by
      unfold zt_l
      rw [if_pos (by omega)]
      rfl
    unfold wL_lawOf_101
    refine br_f (by decide) ?_
    unfold wL_lawOf_115
    refine pk_le (64 + 8 * a + b) 511 (fun _ => ?_) (fun y => absurd y (by omega))
    unfold wL_lawOf_135
    refine pk_lt (8 + a) (8 + c) (fun y => ?_) (fun y => ?_) eu
    · rw [if_neg (by omega)] at ex
      exact zt_144 ha hb hc hp hq hr hS1 hS h8 h9 (Or.inl ⟨rfl, ex⟩) h
    · rw [if_pos (by omega)] at ex
      exact zt_144 ha hb hc hp hq hr hS1 hS h8 h9 (Or.inr ⟨rfl, ex⟩) h
end
end
section
/-! the eight scenes: the order of the slices of top (t), u and v; in the E scenes u and v share a slice -/
theorem zt_ie (x y : Nat) (z : Int32) : (if zt_e x y = 0 then 0 else z) = if x = y then z else 0 := by
  by_cases h : x = y
  · simp [zt_e, h]
  · simp [zt_e, h]
theorem zt_i1 (z : Int32) : (if (1 : Nat) = 0 then 0 else z) = z := rfl
theorem zt_pm_tuv (T U V : Int32) : 0 + T + U + V = T + U + V := by grind
theorem zt_pm_tvu (T U V : Int32) : 0 + T + V + U = T + U + V := by grind
theorem zt_pm_utv (T U V : Int32) : 0 + U + T + V = T + U + V := by grind
theorem zt_pm_uvt (T U V : Int32) : 0 + U + V + T = T + U + V := by grind
theorem zt_pm_vtu (T U V : Int32) : 0 + V + T + U = T + U + V := by grind
theorem zt_pm_vut (T U V : Int32) : 0 + V + U + T = T + U + V := by grind
section
variable {f0 f1 f2 f3 f4 g0 g1 g2 g3 g4 k0 k1 k2 k3 k4 : Int32} {a1 a2 a3 a4 a5 a6 a7 a8 a9 a10 a11 a12 b1 b2 b3 b4 b5 b6 b7 b8 b9 b10 b11 b12 d1 d2 d3 d4 d5 d6 d7 d8 d9 d10 d11 d12 : Nat → Int32}
def zt_Sc (a b c p q r : Nat) (val : Int32) (a1 a2 a3 a4 a5 a6 a7 : Nat → Int32) : Prop :=
  zt_Sc2 a b c p q r a1 a2 a3 a4 a5 a6 a7 ∧ ∃ (x0 x1 x2 y0 y1 y2 : Int32) (g0 g1 g2 : Nat), zt_Sc1 a b c p q r val a1 a2 a3 a4 a5 a6 a7 x0 x1 x2 y0 y1 y2 g0 g1 g2
/-- order tu -/
theorem zt_sE1 {a b c r : Nat} {val : Int32} (ha : a < 8) (hb : b < 8) (hc : c < 8) (hr : r < 8) (o0 : 9 * (c + 1) < 9 * (a + 1) + b + 1) (hF : zt_F3 a1 a2 a3 a4 a5 a6 204818 0 1 (9 * (a + 1) + b + 1) (9 * (a + 1) + b + 1) (9 * (r + 1)) (9 * (c + 1)) val) : zt_Sc a b c a b r val a1 a2 a3 a4 a5 a6 a7 := by
  obtain ⟨⟨h1, h11, h2, h21, h3u, _, h34, h4u, h44, h5u, h54, h6u, h64, _⟩, h3t, h4t, h5t, h6t⟩ := hF
  have hn : zt_nd a1 a3 0 2 (zt_f 1 0 0) (zt_f (9 * (c + 1)) (9 * (a + 1) + b + 1) 0) := zt_nd2 (by omega) h1 (by decide +kernel) h3t h3u (by omega) (by omega)
  have hn1 : zt_nd a1 a3 1 1 (zt_f 0 0 0) (zt_f (9 * (r + 1)) 0 0) := zt_nd1 (by omega) h11 (by decide +kernel) h34 (by omega)
  have hz := hn.2.2.1
  have i0 := (hn.2.2.2 0 (by omega)).2.1
  have i1 := (hn.2.2.2 1 (by omega)).2.1
  have hEv : ∀ (f3 f4 : Int32) (a8 a9 a10 a11 a12 : Nat → Int32), zt_E (nI 0, nI 120, nI 3, f3, f4, a1, a2, a3, a4, a5, a6, a7, a8, a9, a10, a11, a12) (nI 0) (9 * (a + 1) + b + 1) (nI 0) := fun _ _ _ _ _ _ _ => zt_Ef (k := 1) hn h2 (by omega) (lt_s lt_0 (show 9 * (c + 1) < 9 * (a + 1) + b + 1 by omega))
  have hE4 : ∀ (f3 f4 : Int32) (a8 a9 a10 a11 a12 : Nat → Int32), zt_E (nI 0, nI 120, nI 3, f3, f4, a1, a2, a3, a4, a5, a6, a7, a8, a9, a10, a11, a12) (nI 1) (9 * (r + 1)) (nI 4) := fun _ _ _ _ _ _ _ => zt_Ef (k := 0) hn1 h21 (by omega) (fun i hi => absurd hi (by omega))
  have hX := zt_two3 ha hb hr
  have hf : ∀ (f3 f4 : Int32) (a8 a9 a10 a11 a12 : Nat → Int32) (ψ : Int32 → Prop), ψ (nI 4) → wpX_find ψ (nI 0, nI 120, nI 3, f3, f4, a1, a2, a3, a4, a5, a6, a7, a8, a9, a10, a11, a12) (nI (512 + 64 * a + 8 * b + r)) := fun _ _ _ _ _ _ _ ψ hψ => zt_find2 (e := 0) hX (by omega) (hEv _ _ _ _ _ _ _) (by rw [h6u]; exact hE4 _ _ _ _ _ _ _) (Or.inr (pk_in 4 488 (by omega))) hψ
  refine ⟨⟨h54, hf, fun f3 f4 a8 a9 a10 a11 a12 ψ H => ?_⟩, ?_⟩
  · refine zt_remove hX.1 (hf _ _ _ _ _ _ _) h54 (zt_take (k := 2) (e := 0) hX (by omega) (hEv _ _ _ _ _ _ _) h6u (fun b8 => hE4 _ _ _ _ _ _ _) h64 (fun b8 e0 e1 => ⟨3, ?_⟩))
    refine zt_t1 (n := 2) (e := 0) (by omega) e0 e1 h11 h21 h34 (by omega) pk_us h64 h6u ?_
    refine zt_t2h (n := 0) (e := 0) (by omega) e0 h5u (H _ _ _ _ _ 1 0 (9 * (c + 1)) (9 * (a + 1) + b + 1) ?_ (Or.inl ⟨rfl, rfl⟩))
    exact ⟨zt_nd2 (by omega) (show upd a1 1 205056 0 = 204818 from h1) (by decide +kernel) h3t h3u (by omega) (by omega), by omega, by omega, by omega, h2, h3t, h3u, h5t, h5u, h6t, pk_us⟩
  · refine ⟨nI (8 + c), nI (64 + 8 * a + b), nI (512 + 64 * a + 8 * b + r), -2, 5, val, 1, zt_e a c, zt_e a c, ?_⟩
    refine ⟨fun f3 a8 a9 a10 a11 a12 ψ H => ?_, by rw [if_pos (by omega), if_pos (by omega)], Nat.le_refl 1, zt_e1 _ _, zt_e1 _ _, fun ψ h => zt_bg1 hc h, fun ψ h => zt_bgu ha hb hc ψ h, fun ψ h => zt_bgv ha hb hr hc ψ h, by omega, ?_⟩
    · refine zt_list (n := 8) (zt_vA (n := 7) (c := 1) (by omega) hz (by omega) (by omega) (by omega) i0 h5t h6t (by omega) h4t.symm (fun ψ a8 a9 a10 a11 a12 h8 hψ => zt_word1of (by omega) h8 h3t hc hψ)
        (zt_vB (n := 3) (c := 0) (p := a) (q := b) (r := r) (by omega) hz (by omega) (by omega) (by omega) i1 h5u h6u (by omega) h4u.symm (fun ψ a8 a9 a10 a11 a12 h8 hψ => zt_word2of (by omega) h8 h3u ha hb hψ) h11 h21 h3u h34 ha hb hr h54 h64 rfl h44.symm
        (zt_vX (n := 0) (by omega) hz h2 (fun a8 a9 a10 a11 a12 ho => H _ _ _ _ _ ho))))
    · rw [zt_i1, zt_ie, zt_ie]
      exact zt_pm_tuv _ _ _
/-- order ut -/
theorem zt_sE2 {a b c r : Nat} {val : Int32} (ha : a < 8) (hb : b < 8) (hc : c < 8) (hr : r < 8) (o0 : 9 * (a + 1) + b + 1 < 9 * (c + 1)) (hF : zt_F3 a1 a2 a3 a4 a5 a6 205058 0 1 (9 * (a + 1) + b + 1) (9 * (a + 1) + b + 1) (9 * (r + 1)) (9 * (c + 1)) val) : zt_Sc a b c a b r val a1 a2 a3 a4 a5 a6 a7 := by
  obtain ⟨⟨h1, h11, h2, h21, h3u, _, h34, h4u, h44, h5u, h54, h6u, h64, _⟩, h3t, h4t, h5t, h6t⟩ := hF
  have hn : zt_nd a1 a3 0 2 (zt_f 0 1 0) (zt_f (9 * (a + 1) + b + 1) (9 * (c + 1)) 0) := zt_nd2 (by omega) h1 (by decide +kernel) h3u h3t (by omega) (by omega)
  have hn1 : zt_nd a1 a3 1 1 (zt_f 0 0 0) (zt_f (9 * (r + 1)) 0 0) := zt_nd1 (by omega) h11 (by decide +kernel) h34 (by omega)
  have hz := hn.2.2.1
  have i0 := (hn.2.2.2 0 (by omega)).2.1
  have i1 := (hn.2.2.2 1 (by omega)).2.1
  have hEv : ∀ (f3 f4 : Int32) (a8 a9 a10 a11 a12 : Nat → Int32), zt_E (nI 0, nI 120, nI 3, f3, f4, a1, a2, a3, a4, a5, a6, a7, a8, a9, a10, a11, a12) (nI 0) (9 * (a + 1) + b + 1) (nI 0) := fun _ _ _ _ _ _ _ => zt_Ef (k := 0) hn h2 (by omega) lt_0
  have hE4 : ∀ (f3 f4 : Int32) (a8 a9 a10 a11 a12 : Nat → Int32), zt_E (nI 0, nI 120, nI 3, f3, f4, a1, a2, a3, a4, a5, a6, a7, a8, a9, a10, a11, a12) (nI 1) (9 * (r + 1)) (nI 4) := fun _ _ _ _ _ _ _ => zt_Ef (k := 0) hn1 h21 (by omega) (fun i hi => absurd hi (by omega))
  have hX := zt_two3 ha hb hr
  have hf : ∀ (f3 f4 : Int32) (a8 a9 a10 a11 a12 : Nat → Int32) (ψ : Int32 → Prop), ψ (nI 4) → wpX_find ψ (nI 0, nI 120, nI 3, f3, f4, a1, a2, a3, a4, a5, a6, a7, a8, a9, a10, a11, a12) (nI (512 + 64 * a + 8 * b + r)) := fun _ _ _ _ _ _ _ ψ hψ => zt_find2 (e := 0) hX (by omega) (hEv _ _ _ _ _ _ _) (by rw [h6u]; exact hE4 _ _ _ _ _ _ _) (Or.inr (pk_in 4 488 (by omega))) hψ
  refine ⟨⟨h54, hf, fun f3 f4 a8 a9 a10 a11 a12 ψ H => ?_⟩, ?_⟩
  · refine zt_remove hX.1 (hf _ _ _ _ _ _ _) h54 (zt_take (k := 2) (e := 0) hX (by omega) (hEv _ _ _ _ _ _ _) h6u (fun b8 => hE4 _ _ _ _ _ _ _) h64 (fun b8 e0 e1 => ⟨3, ?_⟩))
    refine zt_t1 (n := 2) (e := 0) (by omega) e0 e1 h11 h21 h34 (by omega) pk_us h64 h6u ?_
    refine zt_t2h (n := 0) (e := 0) (by omega) e0 h5u (H _ _ _ _ _ 0 1 (9 * (a + 1) + b + 1) (9 * (c + 1)) ?_ (Or.inr ⟨rfl, rfl⟩))
    exact ⟨zt_nd2 (by omega) (show upd a1 1 205056 0 = 205058 from h1) (by decide +kernel) h3u h3t (by omega) (by omega), by omega, by omega, by omega, h2, h3u, h3t, h5u, h5t, pk_us, h6t⟩
  · refine ⟨nI (64 + 8 * a + b), nI (512 + 64 * a + 8 * b + r), nI (8 + c), 5, val, -2, zt_e a c, zt_e a c, 1, ?_⟩
    refine ⟨fun f3 a8 a9 a10 a11 a12 ψ H => ?_, by rw [if_pos (by omega), if_neg (by omega)], zt_e1 _ _, zt_e1 _ _, Nat.le_refl 1, fun ψ h => zt_bgu ha hb hc ψ h, fun ψ h => zt_bgv ha hb hr hc ψ h, fun ψ h => zt_bg1 hc h, by omega, ?_⟩
    · refine zt_list (n := 8) (zt_vB (n := 4) (c := 0) (p := a) (q := b) (r := r) (by omega) hz (by omega) (by omega) (by omega) i0 h5u h6u (by omega) h4u.symm (fun ψ a8 a9 a10 a11 a12 h8 hψ => zt_word2of (by omega) h8 h3u ha hb hψ) h11 h21 h3u h34 ha hb hr h54 h64 rfl h44.symm
        (zt_vA (n := 3) (c := 1) (by omega) hz (by omega) (by omega) (by omega) i1 h5t h6t (by omega) h4t.symm (fun ψ a8 a9 a10 a11 a12 h8 hψ => zt_word1of (by omega) h8 h3t hc hψ)
        (zt_vX (n := 0) (by omega) hz h2 (fun a8 a9 a10 a11 a12 ho => H _ _ _ _ _ ho))))
    · rw [zt_i1, zt_ie, zt_ie]
      exact zt_pm_uvt _ _ _
/-- order tuv -/
theorem zt_stuv {a b c p q r : Nat} {val : Int32} (ha : a < 8) (hb : b < 8) (hc : c < 8) (hp : p < 8) (hq : q < 8) (hr : r < 8) (o0 : 9 * (c + 1) < 9 * (a + 1) + b + 1) (o1 : 9 * (a + 1) + b + 1 < 9 * (p + 1) + q + 1) (hF : zt_F3 a1 a2 a3 a4 a5 a6 200739 1 2 (9 * (a + 1) + b + 1) (9 * (p + 1) + q + 1) (9 * (r + 1)) (9 * (c + 1)) val) : zt_Sc a b c p q r val a1 a2 a3 a4 a5 a6 a7 := by
  obtain ⟨⟨h1, h11, h2, h21, h3u, h3v, h34, h4u, h44, h5u, h54, h6v, h64, hx⟩, h3t, h4t, h5t, h6t⟩ := hF
  obtain ⟨h5v, h6u⟩ := hx (by decide)
  have hn : zt_nd a1 a3 0 3 (zt_f 2 0 1) (zt_f (9 * (c + 1)) (9 * (a + 1) + b + 1) (9 * (p + 1) + q + 1)) := zt_nd3 (by omega) h1 (by decide +kernel) h3t h3u h3v (by omega) (by omega) (by omega)
  have hn1 : zt_nd a1 a3 1 1 (zt_f 0 0 0) (zt_f (9 * (r + 1)) 0 0) := zt_nd1 (by omega) h11 (by decide +kernel) h34 (by omega)
  have hz := hn.2.2.1
  have i0 := (hn.2.2.2 0 (by omega)).2.1
  have i1 := (hn.2.2.2 1 (by omega)).2.1
  have i2 := (hn.2.2.2 2 (by omega)).2.1
  have hEv : ∀ (f3 f4 : Int32) (a8 a9 a10 a11 a12 : Nat → Int32), zt_E (nI 0, nI 120, nI 3, f3, f4, a1, a2, a3, a4, a5, a6, a7, a8, a9, a10, a11, a12) (nI 0) (9 * (p + 1) + q + 1) (nI 1) := fun _ _ _ _ _ _ _ => zt_Ef (k := 2) hn h2 (by omega) (lt_s (lt_s lt_0 (show 9 * (c + 1) < 9 * (p + 1) + q + 1 by omega)) (show 9 * (a + 1) + b + 1 < 9 * (p + 1) + q + 1 by omega))
  have hE4 : ∀ (f3 f4 : Int32) (a8 a9 a10 a11 a12 : Nat → Int32), zt_E (nI 0, nI 120, nI 3, f3, f4, a1, a2, a3, a4, a5, a6, a7, a8, a9, a10, a11, a12) (nI 1) (9 * (r + 1)) (nI 4) := fun _ _ _ _ _ _ _ => zt_Ef (k := 0) hn1 h21 (by omega) (fun i hi => absurd hi (by omega))
  have hX := zt_two3 hp hq hr
  have hf : ∀ (f3 f4 : Int32) (a8 a9 a10 a11 a12 : Nat → Int32) (ψ : Int32 → Prop), ψ (nI 4) → wpX_find ψ (nI 0, nI 120, nI 3, f3, f4, a1, a2, a3, a4, a5, a6, a7, a8, a9, a10, a11, a12) (nI (512 + 64 * p + 8 * q + r)) := fun _ _ _ _ _ _ _ ψ hψ => zt_find2 (e := 1) hX (by omega) (hEv _ _ _ _ _ _ _) (by rw [h6v]; exact hE4 _ _ _ _ _ _ _) (Or.inr (pk_in 4 488 (by omega))) hψ
  refine ⟨⟨h54, hf, fun f3 f4 a8 a9 a10 a11 a12 ψ H => ?_⟩, ?_⟩
  · refine zt_remove hX.1 (hf _ _ _ _ _ _ _) h54 (zt_take (k := 2) (e := 1) hX (by omega) (hEv _ _ _ _ _ _ _) h6v (fun b8 => hE4 _ _ _ _ _ _ _) h64 (fun b8 e0 e1 => ⟨3, ?_⟩))
    refine zt_t1 (n := 2) (e := 1) (by omega) e0 e1 h11 h21 h34 (by omega) pk_us h64 h6v ?_
    have h1' : upd a1 1 205056 0 = 200739 := h1
    have hn' : zt_nd (upd a1 1 205056) a3 0 3 (zt_f 2 0 1) (zt_f (9 * (c + 1)) (9 * (a + 1) + b + 1) (9 * (p + 1) + q + 1)) := zt_nd3 (by omega) h1' (by decide +kernel) h3t h3u h3v (by omega) (by omega) (by omega)
    refine zt_t2n (n := 0) (k := 2) (W := 200738) hn' (by omega) (by omega) (lt_s (lt_s lt_0 (show 9 * (c + 1) < 9 * (p + 1) + q + 1 by omega)) (show 9 * (a + 1) + b + 1 < 9 * (p + 1) + q + 1 by omega)) (by rw [h1']; decide +kernel) e0 h5v pk_us (H _ _ _ _ _ 2 0 (9 * (c + 1)) (9 * (a + 1) + b + 1) ?_ (Or.inl ⟨rfl, rfl⟩))
    exact ⟨zt_nd2 (W := 200738) (by omega) pk_us (by decide +kernel) h3t h3u (by omega) (by omega), by omega, by omega, by omega, h2, h3t, h3u, h5t, h5u, h6t, h6u⟩
  · refine ⟨nI (8 + c), nI (64 + 8 * a + b), nI (512 + 64 * p + 8 * q + r), -2, 5, val, 1, zt_e a c, zt_e p c, ?_⟩
    refine ⟨fun f3 a8 a9 a10 a11 a12 ψ H => ?_, by rw [if_pos (by omega), if_pos (by omega)], Nat.le_refl 1, zt_e1 _ _, zt_e1 _ _, fun ψ h => zt_bg1 hc h, fun ψ h => zt_bgu ha hb hc ψ h, fun ψ h => zt_bgv hp hq hr hc ψ h, by omega, ?_⟩
    · refine zt_list (n := 9) (zt_vA (n := 8) (c := 2) (by omega) hz (by omega) (by omega) (by omega) i0 h5t h6t (by omega) h4t.symm (fun ψ a8 a9 a10 a11 a12 h8 hψ => zt_word1of (by omega) h8 h3t hc hψ)
        (zt_vA (n := 7) (c := 0) (by omega) hz (by omega) (by omega) (by omega) i1 h5u h6u (by omega) h4u.symm (fun ψ a8 a9 a10 a11 a12 h8 hψ => zt_word2of (by omega) h8 h3u ha hb hψ)
        (zt_vC (n := 3) (c := 1) (p := p) (q := q) (r := r) (by omega) hz (by omega) (by omega) (by omega) i2 h5v h6v (by omega) h11 h21 h3v h34 hp hq hr h54 h64 rfl h44.symm
        (zt_vX (n := 0) (by omega) hz h2 (fun a8 a9 a10 a11 a12 ho => H _ _ _ _ _ ho)))))
    · rw [zt_i1, zt_ie, zt_ie]
      exact zt_pm_tuv _ _ _
/-- order utv -/
theorem zt_sutv {a b c p q r : Nat} {val : Int32} (ha : a < 8) (hb : b < 8) (hc : c < 8) (hp : p < 8) (hq : q < 8) (hr : r < 8) (o0 : 9 * (a + 1) + b + 1 < 9 * (c + 1)) (o1 : 9 * (c + 1) < 9 * (p + 1) + q + 1) (hF : zt_F3 a1 a2 a3 a4 a5 a6 201219 1 2 (9 * (a + 1) + b + 1) (9 * (p + 1) + q + 1) (9 * (r + 1)) (9 * (c + 1)) val) : zt_Sc a b c p q r val a1 a2 a3 a4 a5 a6 a7 := by
  obtain ⟨⟨h1, h11, h2, h21, h3u, h3v, h34, h4u, h44, h5u, h54, h6v, h64, hx⟩, h3t, h4t, h5t, h6t⟩ := hF
  obtain ⟨h5v, h6u⟩ := hx (by decide)
  have hn : zt_nd a1 a3 0 3 (zt_f 0 2 1) (zt_f (9 * (a + 1) + b + 1) (9 * (c + 1)) (9 * (p + 1) + q + 1)) := zt_nd3 (by omega) h1 (by decide +kernel) h3u h3t h3v (by omega) (by omega) (by omega)
  have hn1 : zt_nd a1 a3 1 1 (zt_f 0 0 0) (zt_f (9 * (r + 1)) 0 0) := zt_nd1 (by omega) h11 (by decide +kernel) h34 (by omega)
  have hz := hn.2.2.1
  have i0 := (hn.2.2.2 0 (by omega)).2.1
  have i1 := (hn.2.2.2 1 (by omega)).2.1
  have i2 := (hn.2.2.2 2 (by omega)).2.1
  have hEv : ∀ (f3 f4 : Int32) (a8 a9 a10 a11 a12 : Nat → Int32), zt_E (nI 0, nI 120, nI 3, f3, f4, a1, a2, a3, a4, a5, a6, a7, a8, a9, a10, a11, a12) (nI 0) (9 * (p + 1) + q + 1) (nI 1) := fun _ _ _ _ _ _ _ => zt_Ef (k := 2) hn h2 (by omega) (lt_s (lt_s lt_0 (show 9 * (a + 1) + b + 1 < 9 * (p + 1) + q + 1 by omega)) (show 9 * (c + 1) < 9 * (p + 1) + q + 1 by omega))
  have hE4 : ∀ (f3 f4 : Int32) (a8 a9 a10 a11 a12 : Nat → Int32), zt_E (nI 0, nI 120, nI 3, f3, f4, a1, a2, a3, a4, a5, a6, a7, a8, a9, a10, a11, a12) (nI 1) (9 * (r + 1)) (nI 4) := fun _ _ _ _ _ _ _ => zt_Ef (k := 0) hn1 h21 (by omega) (fun i hi => absurd hi (by omega))
  have hX := zt_two3 hp hq hr
  have hf : ∀ (f3 f4 : Int32) (a8 a9 a10 a11 a12 : Nat → Int32) (ψ : Int32 → Prop), ψ (nI 4) → wpX_find ψ (nI 0, nI 120, nI 3, f3, f4, a1, a2, a3, a4, a5, a6, a7, a8, a9, a10, a11, a12) (nI (512 + 64 * p + 8 * q + r)) := fun _ _ _ _ _ _ _ ψ hψ => zt_find2 (e := 1) hX (by omega) (hEv _ _ _ _ _ _ _) (by rw [h6v]; exact hE4 _ _ _ _ _ _ _) (Or.inr (pk_in 4 488 (by omega))) hψ
  refine ⟨⟨h54, hf, fun f3 f4 a8 a9 a10 a11 a12 ψ H => ?_⟩, ?_⟩
  · refine zt_remove hX.1 (hf _ _ _ _ _ _ _) h54 (zt_take (k := 2) (e := 1) hX (by omega) (hEv _ _ _ _ _ _ _) h6v (fun b8 => hE4 _ _ _ _ _ _ _) h64 (fun b8 e0 e1 => ⟨3, ?_⟩))
    refine zt_t1 (n := 2) (e := 1) (by omega) e0 e1 h11 h21 h34 (by omega) pk_us h64 h6v ?_
    have h1' : upd a1 1 205056 0 = 201219 := h1
    have hn' : zt_nd (upd a1 1 205056) a3 0 3 (zt_f 0 2 1) (zt_f (9 * (a + 1) + b + 1) (9 * (c + 1)) (9 * (p + 1) + q + 1)) := zt_nd3 (by omega) h1' (by decide +kernel) h3u h3t h3v (by omega) (by omega) (by omega)
    refine zt_t2n (n := 0) (k := 2) (W := 201218) hn' (by omega) (by omega) (lt_s (lt_s lt_0 (show 9 * (a + 1) + b + 1 < 9 * (p + 1) + q + 1 by omega)) (show 9 * (c + 1) < 9 * (p + 1) + q + 1 by omega)) (by rw [h1']; decide +kernel) e0 h5v pk_us (H _ _ _ _ _ 0 2 (9 * (a + 1) + b + 1) (9 * (c + 1)) ?_ (Or.inr ⟨rfl, rfl⟩))
    exact ⟨zt_nd2 (W := 201218) (by omega) pk_us (by decide +kernel) h3u h3t (by omega) (by omega), by omega, by omega, by omega, h2, h3u, h3t, h5u, h5t, h6u, h6t⟩
  · refine ⟨nI (64 + 8 * a + b), nI (8 + c), nI (512 + 64 * p + 8 * q + r), 5, -2, val, zt_e a c, 1, zt_e p c, ?_⟩
    refine ⟨fun f3 a8 a9 a10 a11 a12 ψ H => ?_, by rw [if_pos (by omega), if_neg (by omega)], zt_e1 _ _, Nat.le_refl 1, zt_e1 _ _, fun ψ h => zt_bgu ha hb hc ψ h, fun ψ h => zt_bg1 hc h, fun ψ h => zt_bgv hp hq hr hc ψ h, by omega, ?_⟩
    · refine zt_list (n := 9) (zt_vA (n := 8) (c := 0) (by omega) hz (by omega) (by omega) (by omega) i0 h5u h6u (by omega) h4u.symm (fun ψ a8 a9 a10 a11 a12 h8 hψ => zt_word2of (by omega) h8 h3u ha hb hψ)
        (zt_vA (n := 7) (c := 2) (by omega) hz (by omega) (by omega) (by omega) i1 h5t h6t (by omega) h4t.symm (fun ψ a8 a9 a10 a11 a12 h8 hψ => zt_word1of (by omega) h8 h3t hc hψ)
        (zt_vC (n := 3) (c := 1) (p := p) (q := q) (r := r) (by omega) hz (by omega) (by omega) (by omega) i2 h5v h6v (by omega) h11 h21 h3v h34 hp hq hr h54 h64 rfl h44.symm
        (zt_vX (n := 0) (by omega) hz h2 (fun a8 a9 a10 a11 a12 ho => H _ _ _ _ _ ho)))))
    · rw [zt_i1, zt_ie, zt_ie]
      exact zt_pm_utv _ _ _
/-- order uvt -/
theorem zt_suvt {a b c p q r : Nat} {val : Int32} (ha : a < 8) (hb : b < 8) (hc : c < 8) (hp : p < 8) (hq : q < 8) (hr : r < 8) (o0 : 9 * (a + 1) + b + 1 < 9 * (p + 1) + q + 1) (o1 : 9 * (p + 1) + q + 1 < 9 * (c + 1)) (hF : zt_F3 a1 a2 a3 a4 a5 a6 205059 1 2 (9 * (a + 1) + b + 1) (9 * (p + 1) + q + 1) (9 * (r + 1)) (9 * (c + 1)) val) : zt_Sc a b c p q r val a1 a2 a3 a4 a5 a6 a7 := by
  obtain ⟨⟨h1, h11, h2, h21, h3u, h3v, h34, h4u, h44, h5u, h54, h6v, h64, hx⟩, h3t, h4t, h5t, h6t⟩ := hF
  obtain ⟨h5v, h6u⟩ := hx (by decide)
  have hn : zt_nd a1 a3 0 3 (zt_f 0 1 2) (zt_f (9 * (a + 1) + b + 1) (9 * (p + 1) + q + 1) (9 * (c + 1))) := zt_nd3 (by omega) h1 (by decide +kernel) h3u h3v h3t (by omega) (by omega) (by omega)
  have hn1 : zt_nd a1 a3 1 1 (zt_f 0 0 0) (zt_f (9 * (r + 1)) 0 0) := zt_nd1 (by omega) h11 (by decide +kernel) h34 (by omega)
  have hz := hn.2.2.1
  have i0 := (hn.2.2.2 0 (by omega)).2.1
  have i1 := (hn.2.2.2 1 (by omega)).2.1
  have i2 := (hn.2.2.2 2 (by omega)).2.1
  have hEv : ∀ (f3 f4 : Int32) (a8 a9 a10 a11 a12 : Nat → Int32), zt_E (nI 0, nI 120, nI 3, f3, f4, a1, a2, a3, a4, a5, a6, a7, a8, a9, a10, a11, a12) (nI 0) (9 * (p + 1) + q + 1) (nI 1) := fun _ _ _ _ _ _ _ => zt_Ef (k := 1) hn h2 (by omega) (lt_s lt_0 (show 9 * (a + 1) + b + 1 < 9 * (p + 1) + q + 1 by omega))
  have hE4 : ∀ (f3 f4 : Int32) (a8 a9 a10 a11 a12 : Nat → Int32), zt_E (nI 0, nI 120, nI 3, f3, f4, a1, a2, a3, a4, a5, a6, a7, a8, a9, a10, a11, a12) (nI 1) (9 * (r + 1)) (nI 4) := fun _ _ _ _ _ _ _ => zt_Ef (k := 0) hn1 h21 (by omega) (fun i hi => absurd hi (by omega))
  have hX := zt_two3 hp hq hr
  have hf : ∀ (f3 f4 : Int32) (a8 a9 a10 a11 a12 : Nat → Int32) (ψ : Int32 → Prop), ψ (nI 4) → wpX_find ψ (nI 0, nI 120, nI 3, f3, f4, a1, a2, a3, a4, a5, a6, a7, a8, a9, a10, a11, a12) (nI (512 + 64 * p + 8 * q + r)) := fun _ _ _ _ _ _ _ ψ hψ => zt_find2 (e := 1) hX (by omega) (hEv _ _ _ _ _ _ _) (by rw [h6v]; exact hE4 _ _ _ _ _ _ _) (Or.inr (pk_in 4 488 (by omega))) hψ
  refine ⟨⟨h54, hf, fun f3 f4 a8 a9 a10 a11 a12 ψ H => ?_⟩, ?_⟩
  · refine zt_remove hX.1 (hf _ _ _ _ _ _ _) h54 (zt_take (k := 2) (e := 1) hX (by omega) (hEv _ _ _ _ _ _ _) h6v (fun b8 => hE4 _ _ _ _ _ _ _) h64 (fun b8 e0 e1 => ⟨3, ?_⟩))
    refine zt_t1 (n := 2) (e := 1) (by omega) e0 e1 h11 h21 h34 (by omega) pk_us h64 h6v ?_
    have h1' : upd a1 1 205056 0 = 205059 := h1
    have hn' : zt_nd (upd a1 1 205056) a3 0 3 (zt_f 0 1 2) (zt_f (9 * (a + 1) + b + 1) (9 * (p + 1) + q + 1) (9 * (c + 1))) := zt_nd3 (by omega) h1' (by decide +kernel) h3u h3v h3t (by omega) (by omega) (by omega)
    refine zt_t2n (n := 0) (k := 1) (W := 201218) hn' (by omega) (by omega) (lt_s lt_0 (show 9 * (a + 1) + b + 1 < 9 * (p + 1) + q + 1 by omega)) (by rw [h1']; decide +kernel) e0 h5v pk_us (H _ _ _ _ _ 0 2 (9 * (a + 1) + b + 1) (9 * (c + 1)) ?_ (Or.inr ⟨rfl, rfl⟩))
    exact ⟨zt_nd2 (W := 201218) (by omega) pk_us (by decide +kernel) h3u h3t (by omega) (by omega), by omega, by omega, by omega, h2, h3u, h3t, h5u, h5t, h6u, h6t⟩
  · refine ⟨nI (64 + 8 * a + b), nI (512 + 64 * p + 8 * q + r), nI (8 + c), 5, val, -2, zt_e a c, zt_e p c, 1, ?_⟩
    refine ⟨fun f3 a8 a9 a10 a11 a12 ψ H => ?_, by rw [if_pos (by omega), if_neg (by omega)], zt_e1 _ _, zt_e1 _ _, Nat.le_refl 1, fun ψ h => zt_bgu ha hb hc ψ h, fun ψ h => zt_bgv hp hq hr hc ψ h, fun ψ h => zt_bg1 hc h, by omega, ?_⟩
    · refine zt_list (n := 9) (zt_vA (n := 8) (c := 0) (by omega) hz (by omega) (by omega) (by omega) i0 h5u h6u (by omega) h4u.symm (fun ψ a8 a9 a10 a11 a12 h8 hψ => zt_word2of (by omega) h8 h3u ha hb hψ)
        (zt_vC (n := 4) (c := 1) (p := p) (q := q) (r := r) (by omega) hz (by omega) (by omega) (by omega) i1 h5v h6v (by omega) h11 h21 h3v h34 hp hq hr h54 h64 rfl h44.symm
        (zt_vA (n := 3) (c := 2) (by omega) hz (by omega) (by omega) (by omega) i2 h5t h6t (by omega) h4t.symm (fun ψ a8 a9 a10 a11 a12 h8 hψ => zt_word1of (by omega) h8 h3t hc hψ)
        (zt_vX (n := 0) (by omega) hz h2 (fun a8 a9 a10 a11 a12 ho => H _ _ _ _ _ ho)))))
    · rw [zt_i1, zt_ie, zt_ie]
      exact zt_pm_uvt _ _ _
/-- order tvu -/
theorem zt_stvu {a b c p q r : Nat} {val : Int32} (ha : a < 8) (hb : b < 8) (hc : c < 8) (hp : p < 8) (hq : q < 8) (hr : r < 8) (o0 : 9 * (c + 1) < 9 * (p + 1) + q + 1) (o1 : 9 * (p + 1) + q + 1 < 9 * (a + 1) + b + 1) (hF : zt_F3 a1 a2 a3 a4 a5 a6 196899 1 2 (9 * (a + 1) + b + 1) (9 * (p + 1) + q + 1) (9 * (r + 1)) (9 * (c + 1)) val) : zt_Sc a b c p q r val a1 a2 a3 a4 a5 a6 a7 := by
  obtain ⟨⟨h1, h11, h2, h21, h3u, h3v, h34, h4u, h44, h5u, h54, h6v, h64, hx⟩, h3t, h4t, h5t, h6t⟩ := hF
  obtain ⟨h5v, h6u⟩ := hx (by decide)
  have hn : zt_nd a1 a3 0 3 (zt_f 2 1 0) (zt_f (9 * (c + 1)) (9 * (p + 1) + q + 1) (9 * (a + 1) + b + 1)) := zt_nd3 (by omega) h1 (by decide +kernel) h3t h3v h3u (by omega) (by omega) (by omega)
  have hn1 : zt_nd a1 a3 1 1 (zt_f 0 0 0) (zt_f (9 * (r + 1)) 0 0) := zt_nd1 (by omega) h11 (by decide +kernel) h34 (by omega)
  have hz := hn.2.2.1
  have i0 := (hn.2.2.2 0 (by omega)).2.1
  have i1 := (hn.2.2.2 1 (by omega)).2.1
  have i2 := (hn.2.2.2 2 (by omega)).2.1
  have hEv : ∀ (f3 f4 : Int32) (a8 a9 a10 a11 a12 : Nat → Int32), zt_E (nI 0, nI 120, nI 3, f3, f4, a1, a2, a3, a4, a5, a6, a7, a8, a9, a10, a11, a12) (nI 0) (9 * (p + 1) + q + 1) (nI 1) := fun _ _ _ _ _ _ _ => zt_Ef (k := 1) hn h2 (by omega) (lt_s lt_0 (show 9 * (c + 1) < 9 * (p + 1) + q + 1 by omega))
  have hE4 : ∀ (f3 f4 : Int32) (a8 a9 a10 a11 a12 : Nat → Int32), zt_E (nI 0, nI 120, nI 3, f3, f4, a1, a2, a3, a4, a5, a6, a7, a8, a9, a10, a11, a12) (nI 1) (9 * (r + 1)) (nI 4) := fun _ _ _ _ _ _ _ => zt_Ef (k := 0) hn1 h21 (by omega) (fun i hi => absurd hi (by omega))
  have hX := zt_two3 hp hq hr
  have hf : ∀ (f3 f4 : Int32) (a8 a9 a10 a11 a12 : Nat → Int32) (ψ : Int32 → Prop), ψ (nI 4) → wpX_find ψ (nI 0, nI 120, nI 3, f3, f4, a1, a2, a3, a4, a5, a6, a7, a8, a9, a10, a11, a12) (nI (512 + 64 * p + 8 * q + r)) := fun _ _ _ _ _ _ _ ψ hψ => zt_find2 (e := 1) hX (by omega) (hEv _ _ _ _ _ _ _) (by rw [h6v]; exact hE4 _ _ _ _ _ _ _) (Or.inr (pk_in 4 488 (by omega))) hψ
  refine ⟨⟨h54, hf, fun f3 f4 a8 a9 a10 a11 a12 ψ H => ?_⟩, ?_⟩
  · refine zt_remove hX.1 (hf _ _ _ _ _ _ _) h54 (zt_take (k := 2) (e := 1) hX (by omega) (hEv _ _ _ _ _ _ _) h6v (fun b8 => hE4 _ _ _ _ _ _ _) h64 (fun b8 e0 e1 => ⟨3, ?_⟩))
    refine zt_t1 (n := 2) (e := 1) (by omega) e0 e1 h11 h21 h34 (by omega) pk_us h64 h6v ?_
    have h1' : upd a1 1 205056 0 = 196899 := h1
    have hn' : zt_nd (upd a1 1 205056) a3 0 3 (zt_f 2 1 0) (zt_f (9 * (c + 1)) (9 * (p + 1) + q + 1) (9 * (a + 1) + b + 1)) := zt_nd3 (by omega) h1' (by decide +kernel) h3t h3v h3u (by omega) (by omega) (by omega)
    refine zt_t2n (n := 0) (k := 1) (W := 200738) hn' (by omega) (by omega) (lt_s lt_0 (show 9 * (c + 1) < 9 * (p + 1) + q + 1 by omega)) (by rw [h1']; decide +kernel) e0 h5v pk_us (H _ _ _ _ _ 2 0 (9 * (c + 1)) (9 * (a + 1) + b + 1) ?_ (Or.inl ⟨rfl, rfl⟩))
    exact ⟨zt_nd2 (W := 200738) (by omega) pk_us (by decide +kernel) h3t h3u (by omega) (by omega), by omega, by omega, by omega, h2, h3t, h3u, h5t, h5u, h6t, h6u⟩
  · refine ⟨nI (8 + c), nI (512 + 64 * p + 8 * q + r), nI (64 + 8 * a + b), -2, val, 5, 1, zt_e p c, zt_e a c, ?_⟩
    refine ⟨fun f3 a8 a9 a10 a11 a12 ψ H => ?_, by rw [if_neg (by omega), if_pos (by omega)], Nat.le_refl 1, zt_e1 _ _, zt_e1 _ _, fun ψ h => zt_bg1 hc h, fun ψ h => zt_bgv hp hq hr hc ψ h, fun ψ h => zt_bgu ha hb hc ψ h, by omega, ?_⟩
    · refine zt_list (n := 9) (zt_vA (n := 8) (c := 2) (by omega) hz (by omega) (by omega) (by omega) i0 h5t h6t (by omega) h4t.symm (fun ψ a8 a9 a10 a11 a12 h8 hψ => zt_word1of (by omega) h8 h3t hc hψ)
        (zt_vC (n := 4) (c := 1) (p := p) (q := q) (r := r) (by omega) hz (by omega) (by omega) (by omega) i1 h5v h6v (by omega) h11 h21 h3v h34 hp hq hr h54 h64 rfl h44.symm
        (zt_vA (n := 3) (c := 0) (by omega) hz (by omega) (by omega) (by omega) i2 h5u h6u (by omega) h4u.symm (fun ψ a8 a9 a10 a11 a12 h8 hψ => zt_word2of (by omega) h8 h3u ha hb hψ)
        (zt_vX (n := 0) (by omega) hz h2 (fun a8 a9 a10 a11 a12 ho => H _ _ _ _ _ ho)))))
    · rw [zt_i1, zt_ie, zt_ie]
      exact zt_pm_tvu _ _ _
/-- order vtu -/
theorem zt_svtu {a b c p q r : Nat} {val : Int32} (ha : a < 8) (hb : b < 8) (hc : c < 8) (hp : p < 8) (hq : q < 8) (hr : r < 8) (o0 : 9 * (p + 1) + q + 1 < 9 * (c + 1)) (o1 : 9 * (c + 1) < 9 * (a + 1) + b + 1) (hF : zt_F3 a1 a2 a3 a4 a5 a6 197139 1 2 (9 * (a + 1) + b + 1) (9 * (p + 1) + q + 1) (9 * (r + 1)) (9 * (c + 1)) val) : zt_Sc a b c p q r val a1 a2 a3 a4 a5 a6 a7 := by
  obtain ⟨⟨h1, h11, h2, h21, h3u, h3v, h34, h4u, h44, h5u, h54, h6v, h64, hx⟩, h3t, h4t, h5t, h6t⟩ := hF
  obtain ⟨h5v, h6u⟩ := hx (by decide)
  have hn : zt_nd a1 a3 0 3 (zt_f 1 2 0) (zt_f (9 * (p + 1) + q + 1) (9 * (c + 1)) (9 * (a + 1) + b + 1)) := zt_nd3 (by omega) h1 (by decide +kernel) h3v h3t h3u (by omega) (by omega) (by omega)
  have hn1 : zt_nd a1 a3 1 1 (zt_f 0 0 0) (zt_f (9 * (r + 1)) 0 0) := zt_nd1 (by omega) h11 (by decide +kernel) h34 (by omega)
  have hz := hn.2.2.1
  have i0 := (hn.2.2.2 0 (by omega)).2.1
  have i1 := (hn.2.2.2 1 (by omega)).2.1
  have i2 := (hn.2.2.2 2 (by omega)).2.1
  have hEv : ∀ (f3 f4 : Int32) (a8 a9 a10 a11 a12 : Nat → Int32), zt_E (nI 0, nI 120, nI 3, f3, f4, a1, a2, a3, a4, a5, a6, a7, a8, a9, a10, a11, a12) (nI 0) (9 * (p + 1) + q + 1) (nI 1) := fun _ _ _ _ _ _ _ => zt_Ef (k := 0) hn h2 (by omega) lt_0
  have hE4 : ∀ (f3 f4 : Int32) (a8 a9 a10 a11 a12 : Nat → Int32), zt_E (nI 0, nI 120, nI 3, f3, f4, a1, a2, a3, a4, a5, a6, a7, a8, a9, a10, a11, a12) (nI 1) (9 * (r + 1)) (nI 4) := fun _ _ _ _ _ _ _ => zt_Ef (k := 0) hn1 h21 (by omega) (fun i hi => absurd hi (by omega))
  have hX := zt_two3 hp hq hr
  have hf : ∀ (f3 f4 : Int32) (a8 a9 a10 a11 a12 : Nat → Int32) (ψ : Int32 → Prop), ψ (nI 4) → wpX_find ψ (nI 0, nI 120, nI 3, f3, f4, a1, a2, a3, a4, a5, a6, a7, a8, a9, a10, a11, a12) (nI (512 + 64 * p + 8 * q + r)) := fun _ _ _ _ _ _ _ ψ hψ => zt_find2 (e := 1) hX (by omega) (hEv _ _ _ _ _ _ _) (by rw [h6v]; exact hE4 _ _ _ _ _ _ _) (Or.inr (pk_in 4 488 (by omega))) hψ
  refine ⟨⟨h54, hf, fun f3 f4 a8 a9 a10 a11 a12 ψ H => ?_⟩, ?_⟩
  · refine zt_remove hX.1 (hf _ _ _ _ _ _ _) h54 (zt_take (k := 2) (e := 1) hX (by omega) (hEv _ _ _ _ _ _ _) h6v (fun b8 => hE4 _ _ _ _ _ _ _) h64 (fun b8 e0 e1 => ⟨3, ?_⟩))
    refine zt_t1 (n := 2) (e := 1) (by omega) e0 e1 h11 h21 h34 (by omega) pk_us h64 h6v ?_
    have h1' : upd a1 1 205056 0 = 197139 := h1
    have hn' : zt_nd (upd a1 1 205056) a3 0 3 (zt_f 1 2 0) (zt_f (9 * (p + 1) + q + 1) (9 * (c + 1)) (9 * (a + 1) + b + 1)) := zt_nd3 (by omega) h1' (by decide +kernel) h3v h3t h3u (by omega) (by omega) (by omega)
    refine zt_t2n (n := 0) (k := 0) (W := 200738) hn' (by omega) (by omega) lt_0 (by rw [h1']; decide +kernel) e0 h5v pk_us (H _ _ _ _ _ 2 0 (9 * (c + 1)) (9 * (a + 1) + b + 1) ?_ (Or.inl ⟨rfl, rfl⟩))
    exact ⟨zt_nd2 (W := 200738) (by omega) pk_us (by decide +kernel) h3t h3u (by omega) (by omega), by omega, by omega, by omega, h2, h3t, h3u, h5t, h5u, h6t, h6u⟩
  · refine ⟨nI (512 + 64 * p + 8 * q + r), nI (8 + c), nI (64 + 8 * a + b), val, -2, 5, zt_e p c, 1, zt_e a c, ?_⟩
    refine ⟨fun f3 a8 a9 a10 a11 a12 ψ H => ?_, by rw [if_neg (by omega), if_neg (by omega)], zt_e1 _ _, Nat.le_refl 1, zt_e1 _ _, fun ψ h => zt_bgv hp hq hr hc ψ h, fun ψ h => zt_bg1 hc h, fun ψ h => zt_bgu ha hb hc ψ h, by omega, ?_⟩
    · refine zt_list (n := 9) (zt_vC (n := 5) (c := 1) (p := p) (q := q) (r := r) (by omega) hz (by omega) (by omega) (by omega) i0 h5v h6v (by omega) h11 h21 h3v h34 hp hq hr h54 h64 rfl h44.symm
        (zt_vA (n := 4) (c := 2) (by omega) hz (by omega) (by omega) (by omega) i1 h5t h6t (by omega) h4t.symm (fun ψ a8 a9 a10 a11 a12 h8 hψ => zt_word1of (by omega) h8 h3t hc hψ)
        (zt_vA (n := 3) (c := 0) (by omega) hz (by omega) (by omega) (by omega) i2 h5u h6u (by omega) h4u.symm (fun ψ a8 a9 a10 a11 a12 h8 hψ => zt_word2of (by omega) h8 h3u ha hb hψ)
        (zt_vX (n := 0) (by omega) hz h2 (fun a8 a9 a10 a11 a12 ho => H _ _ _ _ _ ho)))))
    · rw [zt_i1, zt_ie, zt_ie]
      exact zt_pm_vtu _ _ _
/-- order vut -/
theorem zt_svut {a b c p q r : Nat} {val : Int32} (ha : a < 8) (hb : b < 8) (hc : c < 8) (hp : p < 8) (hq : q < 8) (hr : r < 8) (o0 : 9 * (p + 1) + q + 1 < 9 * (a + 1) + b + 1) (o1 : 9 * (a + 1) + b + 1 < 9 * (c + 1)) (hF : zt_F3 a1 a2 a3 a4 a5 a6 204819 1 2 (9 * (a + 1) + b + 1) (9 * (p + 1) + q + 1) (9 * (r + 1)) (9 * (c + 1)) val) : zt_Sc a b c p q r val a1 a2 a3 a4 a5 a6 a7 := by
  obtain ⟨⟨h1, h11, h2, h21, h3u, h3v, h34, h4u, h44, h5u, h54, h6v, h64, hx⟩, h3t, h4t, h5t, h6t⟩ := hF
  obtain ⟨h5v, h6u⟩ := hx (by decide)
  have hn : zt_nd a1 a3 0 3 (zt_f 1 0 2) (zt_f (9 * (p + 1) + q + 1) (9 * (a + 1) + b + 1) (9 * (c + 1))) := zt_nd3 (by omega) h1 (by decide +kernel) h3v h3u h3t (by omega) (by omega) (by omega)
  have hn1 : zt_nd a1 a3 1 1 (zt_f 0 0 0) (zt_f (9 * (r + 1)) 0 0) := zt_nd1 (by omega) h11 (by decide +kernel) h34 (by omega)
  have hz := hn.2.2.1
  have i0 := (hn.2.2.2 0 (by omega)).2.1
  have i1 := (hn.2.2.2 1 (by omega)).2.1
  have i2 := (hn.2.2.2 2 (by omega)).2.1
  have hEv : ∀ (f3 f4 : Int32) (a8 a9 a10 a11 a12 : Nat → Int32), zt_E (nI 0, nI 120, nI 3, f3, f4, a1, a2, a3, a4, a5, a6, a7, a8, a9, a10, a11, a12) (nI 0) (9 * (p + 1) + q + 1) (nI 1) := fun _ _ _ _ _ _ _ => zt_Ef (k := 0) hn h2 (by omega) lt_0
  have hE4 : ∀ (f3 f4 : Int32) (a8 a9 a10 a11 a12 : Nat → Int32), zt_E (nI 0, nI 120, nI 3, f3, f4, a1, a2, a3, a4, a5, a6, a7, a8, a9, a10, a11, a12) (nI 1) (9 * (r + 1)) (nI 4) := fun _ _ _ _ _ _ _ => zt_Ef (k := 0) hn1 h21 (by omega) (fun i hi => absurd hi (by omega))
  have hX := zt_two3 hp hq hr
  have hf : ∀ (f3 f4 : Int32) (a8 a9 a10 a11 a12 : Nat → Int32) (ψ : Int32 → Prop), ψ (nI 4) → wpX_find ψ (nI 0, nI 120, nI 3, f3, f4, a1, a2, a3, a4, a5, a6, a7, a8, a9, a10, a11, a12) (nI (512 + 64 * p + 8 * q + r)) := fun _ _ _ _ _ _ _ ψ hψ => zt_find2 (e := 1) hX (by omega) (hEv _ _ _ _ _ _ _) (by rw [h6v]; exact hE4 _ _ _ _ _ _ _) (Or.inr (pk_in 4 488 (by omega))) hψ
  refine ⟨⟨h54, hf, fun f3 f4 a8 a9 a10 a11 a12 ψ H => ?_⟩, ?_⟩
  · refine zt_remove hX.1 (hf _ _ _ _ _ _ _) h54 (zt_take (k := 2) (e := 1) hX (by omega) (hEv _ _ _ _ _ _ _) h6v (fun b8 => hE4 _ _ _ _ _ _ _) h64 (fun b8 e0 e1 => ⟨3, ?_⟩))
    refine zt_t1 (n := 2) (e := 1) (by omega) e0 e1 h11 h21 h34 (by omega) pk_us h64 h6v ?_
    have h1' : upd a1 1 205056 0 = 204819 := h1
    have hn' : zt_nd (upd a1 1 205056) a3 0 3 (zt_f 1 0 2) (zt_f (9 * (p + 1) + q + 1) (9 * (a + 1) + b + 1) (9 * (c + 1))) := zt_nd3 (by omega) h1' (by decide +kernel) h3v h3u h3t (by omega) (by omega) (by omega)
    refine zt_t2n (n := 0) (k := 0) (W := 201218) hn' (by omega) (by omega) lt_0 (by rw [h1']; decide +kernel) e0 h5v pk_us (H _ _ _ _ _ 0 2 (9 * (a + 1) + b + 1) (9 * (c + 1)) ?_ (Or.inr ⟨rfl, rfl⟩))
    exact ⟨zt_nd2 (W := 201218) (by omega) pk_us (by decide +kernel) h3u h3t (by omega) (by omega), by omega, by omega, by omega, h2, h3u, h3t, h5u, h5t, h6u, h6t⟩
  · refine ⟨nI (512 + 64 * p + 8 * q + r), nI (64 + 8 * a + b), nI (8 + c), val, 5, -2, zt_e p c, zt_e a c, 1, ?_⟩
    refine ⟨fun f3 a8 a9 a10 a11 a12 ψ H => ?_, by rw [if_neg (by omega), if_neg (by omega)], zt_e1 _ _, zt_e1 _ _, Nat.le_refl 1, fun ψ h => zt_bgv hp hq hr hc ψ h, fun ψ h => zt_bgu ha hb hc ψ h, fun ψ h => zt_bg1 hc h, by omega, ?_⟩
    · refine zt_list (n := 9) (zt_vC (n := 5) (c := 1) (p := p) (q := q) (r := r) (by omega) hz (by omega) (by omega) (by omega) i0 h5v h6v (by omega) h11 h21 h3v h34 hp hq hr h54 h64 rfl h44.symm
        (zt_vA (n := 4) (c := 0) (by omega) hz (by omega) (by omega) (by omega) i1 h5u h6u (by omega) h4u.symm (fun ψ a8 a9 a10 a11 a12 h8 hψ => zt_word2of (by omega) h8 h3u ha hb hψ)
        (zt_vA (n := 3) (c := 2) (by omega) hz (by omega) (by omega) (by omega) i2 h5t h6t (by omega) h4t.symm (fun ψ a8 a9 a10 a11 a12 h8 hψ => zt_word1of (by omega) h8 h3t hc hψ)
        (zt_vX (n := 0) (by omega) hz h2 (fun a8 a9 a10 a11 a12 ho => H _ _ _ _ _ ho)))))
    · rw [zt_i1, zt_ie, zt_ie]
      exact zt_pm_vut _ _ _
end
end
section
/-! the third put: from the state behind put(v, val) to a scene -/
section
variable {f0 f1 f2 f3 f4 g0 g1 g2 g3 g4 k0 k1 k2 k3 k4 : Int32} {a1 a2 a3 a4 a5 a6 a7 a8 a9 a10 a11 a12 b1 b2 b3 b4 b5 b6 b7 b8 b9 b10 b11 b12 d1 d2 d3 d4 d5 d6 d7 d8 d9 d10 d11 d12 : Nat → Int32}
theorem zt_cE {a b c r : Nat} {val : Int32} {post : Int32 → St2 → Prop} (ha : a < 8) (hb : b < 8) (hc : c < 8) (hr : r < 8) (hF : zt_F2 a1 a2 a3 a4 a5 a6 205057 0 (9 * (a + 1) + b + 1) (9 * (a + 1) + b + 1) (9 * (r + 1)) val)
    (H : ∀ b1 b2 b3 b4 b5 b6 : Nat → Int32, zt_Sc a b c a b r val b1 b2 b3 b4 b5 b6 a7 → post 1 (nI 0, nI 120, nI 3, f3, 0, b1, b2, b3, b4, b5, b6, a7, a8, a9, a10, a11, a12)) : wpX_put post (nI 0, nI 120, nI 2, f3, f4, a1, a2, a3, a4, a5, a6, a7, a8, a9, a10, a11, a12) (nI (8 + c)) (-2) := by
  have hn : zt_nd a1 a3 0 1 (zt_f 0 0 0) (zt_f (9 * (a + 1) + b + 1) 0 0) := zt_nd1 (by omega) hF.1 (by decide +kernel) hF.2.2.2.2.1 (by omega)
  have hne : ∀ i, i < 1 → (zt_f (9 * (a + 1) + b + 1) 0 0) i ≠ 9 * (c + 1) := (lt_s lt_0 (show 9 * (a + 1) + b + 1 ≠ 9 * (c + 1) by omega))
  by_cases z0 : 9 * (c + 1) < 9 * (a + 1) + b + 1
  · exact zt_P3 (n := 1) (k := 0) (W' := 204818) (zt_one1 hc) (by omega) hF hn rfl (by omega) (by omega) lt_0 (fun _ => (show 9 * (c + 1) < 9 * (a + 1) + b + 1 by omega)) hne (by decide +kernel) (by decide +kernel) (fun b1 b2 b3 b4 b5 b6 hF3 => H _ _ _ _ _ _ (zt_sE1 ha hb hc hr (by omega) hF3))
  · exact zt_P3 (n := 1) (k := 1) (W' := 205058) (zt_one1 hc) (by omega) hF hn rfl (by omega) (by omega) (lt_s lt_0 (show 9 * (a + 1) + b + 1 < 9 * (c + 1) by omega)) (fun y => absurd y (by omega)) hne (by decide +kernel) (by decide +kernel) (fun b1 b2 b3 b4 b5 b6 hF3 => H _ _ _ _ _ _ (zt_sE2 ha hb hc hr (by omega) hF3))
theorem zt_cL {a b c p q r : Nat} {val : Int32} {post : Int32 → St2 → Prop} (ha : a < 8) (hb : b < 8) (hc : c < 8) (hp : p < 8) (hq : q < 8) (hr : r < 8) (ho : 9 * (a + 1) + b + 1 < 9 * (p + 1) + q + 1) (hF : zt_F2 a1 a2 a3 a4 a5 a6 205058 1 (9 * (a + 1) + b + 1) (9 * (p + 1) + q + 1) (9 * (r + 1)) val)
    (H : ∀ b1 b2 b3 b4 b5 b6 : Nat → Int32, zt_Sc a b c p q r val b1 b2 b3 b4 b5 b6 a7 → post 1 (nI 0, nI 120, nI 3, f3, 0, b1, b2, b3, b4, b5, b6, a7, a8, a9, a10, a11, a12)) : wpX_put post (nI 0, nI 120, nI 2, f3, f4, a1, a2, a3, a4, a5, a6, a7, a8, a9, a10, a11, a12) (nI (8 + c)) (-2) := by
  have hn : zt_nd a1 a3 0 2 (zt_f 0 1 0) (zt_f (9 * (a + 1) + b + 1) (9 * (p + 1) + q + 1) 0) := zt_nd2 (by omega) hF.1 (by decide +kernel) hF.2.2.2.2.1 hF.2.2.2.2.2.1 (by omega) (by omega)
  have hne : ∀ i, i < 2 → (zt_f (9 * (a + 1) + b + 1) (9 * (p + 1) + q + 1) 0) i ≠ 9 * (c + 1) := (lt_s (lt_s lt_0 (show 9 * (a + 1) + b + 1 ≠ 9 * (c + 1) by omega)) (show 9 * (p + 1) + q + 1 ≠ 9 * (c + 1) by omega))
  by_cases z0 : 9 * (c + 1) < 9 * (a + 1) + b + 1
  · exact zt_P3 (n := 2) (k := 0) (W' := 200739) (zt_one1 hc) (by omega) hF hn rfl (by omega) (by omega) lt_0 (fun _ => (show 9 * (c + 1) < 9 * (a + 1) + b + 1 by omega)) hne (by decide +kernel) (by decide +kernel) (fun b1 b2 b3 b4 b5 b6 hF3 => H _ _ _ _ _ _ (zt_stuv ha hb hc hp hq hr (by omega) (by omega) hF3))
  · by_cases z1 : 9 * (c + 1) < 9 * (p + 1) + q + 1
    · exact zt_P3 (n := 2) (k := 1) (W' := 201219) (zt_one1 hc) (by omega) hF hn rfl (by omega) (by omega) (lt_s lt_0 (show 9 * (a + 1) + b + 1 < 9 * (c + 1) by omega)) (fun _ => (show 9 * (c + 1) < 9 * (p + 1) + q + 1 by omega)) hne (by decide +kernel) (by decide +kernel) (fun b1 b2 b3 b4 b5 b6 hF3 => H _ _ _ _ _ _ (zt_sutv ha hb hc hp hq hr (by omega) (by omega) hF3))
    · exact zt_P3 (n := 2) (k := 2) (W' := 205059) (zt_one1 hc) (by omega) hF hn rfl (by omega) (by omega) (lt_s (lt_s lt_0 (show 9 * (a + 1) + b + 1 < 9 * (c + 1) by omega)) (show 9 * (p + 1) + q + 1 < 9 * (c + 1) by omega)) (fun y => absurd y (by omega)) hne (by decide +kernel) (by decide +kernel) (fun b1 b2 b3 b4 b5 b6 hF3 => H _ _ _ _ _ _ (zt_suvt ha hb hc hp hq hr (by omega) (by omega) hF3))
theorem zt_cG {a b c p q r : Nat} {val : Int32} {post : Int32 → St2 → Prop} (ha : a < 8) (hb : b < 8) (hc : c < 8) (hp : p < 8) (hq : q < 8) (hr : r < 8) (ho : 9 * (p + 1) + q + 1 < 9 * (a + 1) + b + 1) (hF : zt_F2 a1 a2 a3 a4 a5 a6 204818 1 (9 * (a + 1) + b + 1) (9 * (p + 1) + q + 1) (9 * (r + 1)) val)
    (H : ∀ b1 b2 b3 b4 b5 b6 : Nat → Int32, zt_Sc a b c p q r val b1 b2 b3 b4 b5 b6 a7 → post 1 (nI 0, nI 120, nI 3, f3, 0, b1, b2, b3, b4, b5, b6, a7, a8, a9, a10, a11, a12)) : wpX_put post (nI 0, nI 120, nI 2, f3, f4, a1, a2, a3, a4, a5, a6, a7, a8, a9, a10, a11, a12) (nI (8 + c)) (-2) := by
  have hn : zt_nd a1 a3 0 2 (zt_f 1 0 0) (zt_f (9 * (p + 1) + q + 1) (9 * (a + 1) + b + 1) 0) := zt_nd2 (by omega) hF.1 (by decide +kernel) hF.2.2.2.2.2.1 hF.2.2.2.2.1 (by omega) (by omega)
  have hne : ∀ i, i < 2 → (zt_f (9 * (p + 1) + q + 1) (9 * (a + 1) + b + 1) 0) i ≠ 9 * (c + 1) := (lt_s (lt_s lt_0 (show 9 * (p + 1) + q + 1 ≠ 9 * (c + 1) by omega)) (show 9 * (a + 1) + b + 1 ≠ 9 * (c + 1) by omega))
  by_cases z0 : 9 * (c + 1) < 9 * (p + 1) + q + 1
  · exact zt_P3 (n := 2) (k := 0) (W' := 196899) (zt_one1 hc) (by omega) hF hn rfl (by omega) (by omega) lt_0 (fun _ => (show 9 * (c + 1) < 9 * (p + 1) + q + 1 by omega)) hne (by decide +kernel) (by decide +kernel) (fun b1 b2 b3 b4 b5 b6 hF3 => H _ _ _ _ _ _ (zt_stvu ha hb hc hp hq hr (by omega) (by omega) hF3))
  · by_cases z1 : 9 * (c + 1) < 9 * (a + 1) + b + 1
    · exact zt_P3 (n := 2) (k := 1) (W' := 197139) (zt_one1 hc) (by omega) hF hn rfl (by omega) (by omega) (lt_s lt_0 (show 9 * (p + 1) + q + 1 < 9 * (c + 1) by omega)) (fun _ => (show 9 * (c + 1) < 9 * (a + 1) + b + 1 by omega)) hne (by decide +kernel) (by decide +kernel) (fun b1 b2 b3 b4 b5 b6 hF3 => H _ _ _ _ _ _ (zt_svtu ha hb hc hp hq hr (by omega) (by omega) hF3))
    · exact zt_P3 (n := 2) (k := 2) (W' := 204819) (zt_one1 hc) (by omega) hF hn rfl (by omega) (by omega) (lt_s (lt_s lt_0 (show 9 * (p + 1) + q + 1 < 9 * (c + 1) by omega)) (show 9 * (a + 1) + b + 1 < 9 * (c + 1) by omega)) (fun y => absurd y (by omega)) hne (by decide +kernel) (by decide +kernel) (fun b1 b2 b3 b4 b5 b6 hF3 => H _ _ _ _ _ _ (zt_svut ha hb hc hp hq hr (by omega) (by omega) hF3))
end
end
section
/-! the whole law -/
section
variable {f0 f1 f2 f3 f4 g0 g1 g2 g3 g4 k0 k1 k2 k3 k4 : Int32} {a1 a2 a3 a4 a5 a6 a7 a8 a9 a10 a11 a12 b1 b2 b3 b4 b5 b6 b7 b8 b9 b10 b11 b12 d1 d2 d3 d4 d5 d6 d7 d8 d9 d10 d11 d12 : Nat → Int32}
theorem zt_init {post : St2 → Prop} {mc ms : Nat} (hm : 12 ≤ mc) (hs : 2407 ≤ ms)
    (H : ∀ a7 : Nat → Int32, a7 121 = nI 0 → a7 120 = nI 1 → post (-1, nI 122, nI 0, 0, 0, fun _ => 0, fun _ => 0, fun _ => 0, fun _ => 0, fun _ => 0, fun _ => 0, a7, fun _ => 0, fun _ => 0, fun _ => 0, fun _ => 0, fun _ => 0)) : wpX_init post mc ms (0, 0, 0, 0, 0) := by
  unfold wpX_init
  refine ⟨by omega, by omega, by omega, by omega, by omega, by omega, by omega, by omega, by omega, by omega, by omega, by omega, by omega, by omega, by omega, by omega, by omega, by omega, by omega, by omega, by omega, by omega, by omega, by omega, ?_⟩
  refine pk_loop (fun n i s => wX_init_108 post mc ms 12 2407 (-1) 0 0 0 0 n (nI i) (fun _ => 0) (fun _ => 0) (fun _ => 0) (fun _ => 0) (fun _ => 0) (fun _ => 0) s (fun _ => 0) (fun _ => 0) (fun _ => 0) (fun _ => 0) (fun _ => 0)) (fun i s => ∀ j, j < i → s j = nI (121 - j)) 122 0 (fun _ => 0) (by omega) (fun j hj => absurd hj (by omega)) ?_ ?_
  · intro n s h
    exact pk_le 122 122 (fun _ => H s (h 121 (by omega)) (h 120 (by omega))) (fun z => absurd z (by omega))
  · intro n i s hi h hw
    refine pk_le 122 i (fun z => absurd z (by omega)) (fun _ => ⟨pk_in i 122 hi, nm_r (e' := upd s i (nI (121 - i))) ?_ (nm_r (e' := nI (i + 1)) (nI_1 i) (hw _ ?_))⟩)
    · rw [nI_clamp (by omega)]
      show upd s i (nI 121 - nI i) = _
      rw [pk_sub (by omega)]
    · intro j hj
      by_cases e : j = i
      · rw [e]
        exact pk_us
      · rw [pk_un e]
        exact h j (by omega)
theorem zt_fin {post : Int32 → St0 → Prop} {mc ms kc ks a b c p q r : Nat} {val : Int32} (ha : a < 8) (hb : b < 8) (hc : c < 8) (hp : p < 8) (hq : q < 8) (hr : r < 8) (hS : zt_Sc a b c p q r val a1 a2 a3 a4 a5 a6 a7) (h : post 1 ()) :
    ((nI (512 + 64 * p + 8 * q + r) >>> ((3 : Int32) &&& 31)) = nI (64 + 8 * a + b) → wL_lawOf_85 post mc ms val (nI (64 + 8 * a + b)) (nI (512 + 64 * p + 8 * q + r)) (nI (8 + c)) 1 kc ks (nI 0) (nI 120) (nI 3) f3 0 a1 a2 a3 a4 a5 a6 a7 a8 a9 a10 a11 a12) ∧
    (¬ (nI (512 + 64 * p + 8 * q + r) >>> ((3 : Int32) &&& 31)) = nI (64 + 8 * a + b) → wL_lawOf_85 post mc ms val (nI (64 + 8 * a + b)) (nI (512 + 64 * p + 8 * q + r)) (nI (8 + c)) 0 kc ks (nI 0) (nI 120) (nI 3) f3 0 a1 a2 a3 a4 a5 a6 a7 a8 a9 a10 a11 a12) := by
  obtain ⟨h2, x0, x1, x2, y0, y1, y2, g0, g1, g2, h1⟩ := hS
  have ew : nI (512 + 64 * p + 8 * q + r) >>> ((3 : Int32) &&& 31) = nI (64 + 8 * p + q) := zt_sh 3 (by omega) (by decide +kernel) (by omega)
  refine pk_eq (64 + 8 * p + q) (64 + 8 * a + b) (fun z => zt_85 ha hb hc hp hq hr h1 h2 ?_ h) (fun z => zt_85 ha hb hc hp hq hr h1 h2 ?_ h) ew
  · unfold zt_e
    rw [if_pos (by omega)]
    rfl
  · unfold zt_e
    rw [if_neg (by omega)]
    rfl
end
theorem zt_lawOf {post : Int32 → St0 → Prop} {mc ms : Nat} {x y z val : Int32} (hm : 13 ≤ mc) (hs : 2424 ≤ ms) (h : post 1 ()) : wpL_lawOf post mc ms () x y z val := by
  obtain ⟨j, hj, ej⟩ := pk_andE x (m := 63) 6 (by decide +kernel)
  obtain ⟨k, hk, ek⟩ := pk_andE y (m := 511) 9 (by decide +kernel)
  obtain ⟨c, hc, ec⟩ := pk_andE z (m := 7) 3 (by decide +kernel)
  obtain ⟨a, b, ha, hb, eu⟩ : ∃ a b : Nat, a < 8 ∧ b < 8 ∧ 64 + (x &&& 63) = nI (64 + 8 * a + b) := by
    refine ⟨j / 8, j % 8, by omega, by omega, ?_⟩
    rw [ej]
    show nI 64 + nI j = _
    rw [nI_add, show 64 + 8 * (j / 8) + j % 8 = 64 + j by omega]
  obtain ⟨p, q, r, hp, hq, hr, ev⟩ : ∃ p q r : Nat, p < 8 ∧ q < 8 ∧ r < 8 ∧ 512 + (y &&& 511) = nI (512 + 64 * p + 8 * q + r) := by
    refine ⟨k / 64, k / 8 % 8, k % 8, by omega, by omega, by omega, ?_⟩
    rw [ek]
    show nI 512 + nI k = _
    rw [nI_add, show 512 + 64 * (k / 64) + 8 * (k / 8 % 8) + k % 8 = 512 + k by omega]
  have et : 8 + (z &&& 7) = nI (8 + c) := by
    rw [ec]
    show nI 8 + nI c = _
    rw [nI_add]
  have hc' : c < 8 := by omega
  unfold wpL_lawOf
  refine ⟨by omega, by omega, 12, 2407, by omega, by omega, zt_init (by omega) (by omega) (fun a7 h121 h120 => nm_r (e' := nI (64 + 8 * a + b)) eu (nm_r (e' := nI (512 + 64 * p + 8 * q + r)) ev (nm_r (e' := nI (8 + c)) et ?_)))⟩
  refine zt_P1 (zt_one2 ha hb) (by omega) h121 (fun b1 b2 b3 b4 b5 b6 hF1 => ?_)
  rcases Nat.lt_trichotomy (9 * (a + 1) + b + 1) (9 * (p + 1) + q + 1) with o | o | o
  · exact zt_P2n (k := 1) (W := 205058) (zt_two3 hp hq hr) (by omega) (by omega) (by omega) (by omega) (fun _ => o) (fun w => absurd w (by omega)) (by decide +kernel) h120 hF1
      (fun d1 d2 d3 d4 d5 d6 hF2 => zt_cL ha hb hc' hp hq hr o hF2 (fun e1 e2 e3 e4 e5 e6 hS => br_t rfl (zt_fin ha hb hc' hp hq hr hS h)))
  · obtain rfl : p = a := by omega
    obtain rfl : q = b := by omega
    exact zt_P2e (zt_two3 hp hq hr) (by omega) (by omega) h120 hF1
      (fun d1 d2 d3 d4 d5 d6 hF2 => zt_cE hp hq hc' hr hF2 (fun e1 e2 e3 e4 e5 e6 hS => br_t rfl (zt_fin hp hq hc' hp hq hr hS h)))
  · exact zt_P2n (k := 0) (W := 204818) (zt_two3 hp hq hr) (by omega) (by omega) (by omega) (by omega) (fun w => absurd w (by omega)) (fun _ => o) (by decide +kernel) h120 hF1
      (fun d1 d2 d3 d4 d5 d6 hF2 => zt_cG ha hb hc' hp hq hr o hF2 (fun e1 e2 e3 e4 e5 e6 hS => br_t rfl (zt_fin ha hb hc' hp hq hr hS h)))
theorem zt_cell {post : Int32 → Prop} {L : Nat} {xs : Nat → Int32} (k : Nat) (hk : k < 4) (hL : L ≤ 4) (H : ∀ x : Int32, post x) : wpL_cellAt post L xs () (nI k) :=
  pk_le L k (fun _ => H _) (fun z => ⟨pk_in k L z, H _⟩)
theorem i_vc (xs : Nat → Int32) (L : Nat) (hL : L ≤ 4) : wpL_law (fun r => r = 1) L xs := by
  unfold wpL_law
  exact zt_cell 0 (by omega) hL (fun x => zt_cell 1 (by omega) hL (fun y => zt_cell 2 (by omega) hL (fun z => zt_cell 3 (by omega) hL (fun val => ⟨1056, 16896, by omega, by omega, zt_lawOf (by omega) (by omega) rfl⟩))))
end
