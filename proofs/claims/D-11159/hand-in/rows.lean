section
/-! ===== the pure picture of a chain of certificates; g: the settings, five a certificate ===== -/
/-- names left free behind the first c certificates -/
def zc_O (g : Nat → Int32) : Nat → Int32
  | 0 => 255
  | c + 1 => (zc_O g c &&& g (5 * c + 2)) &&& (g (5 * c + 3) ^^^ (-1))
/-- policies common to the first c certificates -/
def zc_P (g : Nat → Int32) : Nat → Int32
  | 0 => 15
  | c + 1 => zc_P g c &&& g (5 * c + 4)
def zc_cm (x : Int32) : Int32 := if x = 4 then x else x - 1
/-- how many may come behind the first c certificates -/
def zc_M (g : Nat → Int32) : Nat → Int32
  | 0 => 4
  | c + 1 => if zc_cm (zc_M g c) ≤ g (5 * c + 1) then zc_cm (zc_M g c) else g (5 * c + 1)
def zc_good (t w : Int32) (b5 b6 b8 b9 : Nat → Int32) (c : Nat) : Prop := ¬ nI c = w ∧ b9 c = 0 ∧ ¬ t < b5 c ∧ ¬ b6 c < t ∧ ¬ b8 c ≤ t
def zc_op (b3 : Nat → Int32) (o : Int32) (c : Nat) : Prop := (o >>> (b3 c &&& 31)) &&& 1 = 1
/-- certificate c may stand inside a path, behind the first c -/
def zc_Ext (t w : Int32) (b3 b5 b6 g b8 b9 : Nat → Int32) (c : Nat) : Prop :=
  ¬ g (5 * c) = 0 ∧ zc_good t w b5 b6 b8 b9 c ∧ ¬ zc_P g (c + 1) = 0 ∧ ¬ zc_M g c = 0 ∧ zc_op b3 (zc_O g c) c
/-- certificate c may end a path, behind the first c -/
def zc_End (t w : Int32) (b3 b5 b6 g b8 b9 : Nat → Int32) (c : Nat) : Prop :=
  zc_good t w b5 b6 b8 b9 c ∧ zc_op b3 (zc_O g c) c ∧ ¬ zc_P g (c + 1) = 0
/-- the state (or -1) of the first k certificates -/
def zc_px : Nat → Int32
  | 0 => -1
  | j + 1 => nI j
/-- certificate c may follow the first k by its signature; A: how many certificates are anchored -/
def zc_sg (A c : Nat) : Nat → Prop
  | 0 => c < A
  | j + 1 => c = j + 1
/-- who signs whom -/
def zc_net (m A : Nat) (b1 b2 b3 b4 b10 : Nat → Int32) : Prop :=
  (∀ c, c < m → ¬ b1 c = b3 c) ∧
  (∀ c l, c < m → l < m → (c = l + 1 → b1 c = b3 l ∧ b2 c = b4 l) ∧ (c ≠ l + 1 → ¬ b1 c = b3 l)) ∧
  (∀ c, c < m → (c < A → b10 0 = 10 * b1 c + b2 c ∨ b10 1 = 10 * b1 c + b2 c ∨ b10 2 = 10 * b1 c + b2 c) ∧
    (A ≤ c → ¬ b10 0 = 10 * b1 c + b2 c ∧ ¬ b10 1 = 10 * b1 c + b2 c ∧ ¬ b10 2 = 10 * b1 c + b2 c))
def zc_bf (A j : Nat) : Int32 := if j < A then -1 else nI (j - 1)
/-- the first K states are those of the chain -/
def zc_rec (A K : Nat) (g b11 b12 b13 b14 b15 : Nat → Int32) : Prop :=
  ∀ j, j < K → b11 j = nI j ∧ b12 j = zc_O g (j + 1) ∧ b13 j = zc_M g (j + 1) ∧ b14 j = zc_P g (j + 1) ∧ b15 j = zc_bf A j
/-- the certificates ahead of the last anchored one change nothing -/
def zc_flat (A : Nat) (g : Nat → Int32) : Prop := ∀ c, c < A → zc_O g c = 255 ∧ zc_P g c = 15 ∧ zc_M g c = 4
theorem zc_flat1 (g : Nat → Int32) : zc_flat 1 g := by
  intro c hc
  have e : c = 0 := by omega
  subst e
  exact ⟨rfl, rfl, rfl⟩
theorem zc_sgO {A c k : Nat} {g : Nat → Int32} (hf : zc_flat A g) (h : zc_sg A c k) : zc_O g k = zc_O g c ∧ zc_P g k = zc_P g c ∧ zc_M g k = zc_M g c := by
  cases k with
  | zero =>
    obtain ⟨h1, h2, h3⟩ := hf c h
    exact ⟨h1.symm, h2.symm, h3.symm⟩
  | succ j =>
    have e : c = j + 1 := h
    subst e
    exact ⟨rfl, rfl, rfl⟩
/-! indexes -/
theorem zc_i0 (c : Nat) : 5 * nI c = nI (5 * c) := pk_mul 5 c
theorem zc_ij (c j : Nat) : nI (5 * c) + nI j = nI (5 * c + j) := nI_add _ _
theorem zc_i1 (c : Nat) : 5 * nI c + 1 = nI (5 * c + 1) := by rw [zc_i0]; exact nI_add _ 1
theorem zc_i2 (c : Nat) : 5 * nI c + 2 = nI (5 * c + 2) := by rw [zc_i0]; exact nI_add _ 2
theorem zc_i3 (c : Nat) : 5 * nI c + 3 = nI (5 * c + 3) := by rw [zc_i0]; exact nI_add _ 3
theorem zc_i4 (c : Nat) : 5 * nI c + 4 = nI (5 * c + 4) := by rw [zc_i0]; exact nI_add _ 4
theorem zc_uu {f : Nat → Int32} {k : Nat} {x y : Int32} (h : f k = y) : upd (upd f k x) k y = f := by
  funext j
  by_cases e : j = k
  · subst e
    rw [pk_us, h]
  · rw [pk_un e, pk_un e]
theorem zc_px_lt {k : Nat} (h : k < 2 ^ 31) : ¬ zc_px k = -2 := by
  cases k with
  | zero => decide
  | succ j =>
    intro e
    have h2 : (nI j).toInt = ((-2 : Int32)).toInt := congrArg Int32.toInt e
    rw [nI_toInt (by omega)] at h2
    have h3 : ((-2 : Int32)).toInt = -2 := by decide
    omega
end
section
/-! ===== the walk: the small methods ===== -/
section WALK
variable {f0 f1 f2 f3 f4 f5 : Int32} {a1 a2 a3 a4 a5 a6 a7 a8 a9 a10 a11 a12 a13 a14 a15 a16 a17 : Nat → Int32}
theorem zc_isGood {post : Int32 → Prop} {c : Nat} (hc : c < 12) (h1 : zc_good f3 f4 a5 a6 a8 a9 c → post 1) (h0 : ¬ zc_good f3 f4 a5 a6 a8 a9 c → post 0) : wpX_isGood post (f0, f1, f2, f3, f4, f5, a1, a2, a3, a4, a5, a6, a7, a8, a9, a10, a11, a12, a13, a14, a15, a16, a17) (nI c) := by
  have hi : vp_in (nI c) 12 := vp_in_nI hc (by decide)
  unfold wpX_isGood
  dsimp only
  rw [nI_clamp (by omega)]
  exact br_c (fun z => h0 (fun g => g.1 z)) (fun z1 => ⟨hi, br_c (fun z2 => ⟨hi, br_c (fun z => h0 (fun g => g.2.2.1 z)) (fun z3 => ⟨hi, br_c (fun z => h0 (fun g => g.2.2.2.1 z)) (fun z4 => ⟨hi, br_c (fun z => h0 (fun g => g.2.2.2.2 z)) (fun z5 => h1 ⟨z1, z2, z3, z4, z5⟩)⟩)⟩)⟩) (fun z => h0 (fun g => z g.2.1))⟩)
theorem zc_isSelf {post : Int32 → Prop} {m A c : Nat} (hn : zc_net m A a1 a2 a3 a4 a10) (hm : m ≤ 12) (hc : c < m) (h0 : post 0) : wpX_isSelfIssued post (f0, f1, f2, f3, f4, f5, a1, a2, a3, a4, a5, a6, a7, a8, a9, a10, a11, a12, a13, a14, a15, a16, a17) (nI c) := by
  have hi : vp_in (nI c) 12 := vp_in_nI (by omega) (by decide)
  unfold wpX_isSelfIssued
  dsimp only
  rw [nI_clamp (by omega)]
  exact ⟨hi, hi, br_f (hn.1 c hc) h0⟩
theorem zc_isAnchored {post : Int32 → Prop} {m A c : Nat} (hn : zc_net m A a1 a2 a3 a4 a10) (hm : m ≤ 12) (hc : c < m) (h1 : c < A → post 1) (h0 : A ≤ c → post 0) : wpX_isAnchored post (f0, f1, f2, f3, f4, f5, a1, a2, a3, a4, a5, a6, a7, a8, a9, a10, a11, a12, a13, a14, a15, a16, a17) (nI c) := by
  have hi : vp_in (nI c) 12 := vp_in_nI (by omega) (by decide)
  unfold wpX_isAnchored
  dsimp only
  rw [nI_clamp (by omega)]
  refine ⟨hi, hi, nm_e ?_⟩
  have hA := hn.2.2 c hc
  have d : c < A ∨ A ≤ c := by omega
  rcases d with d | d
  · have p1 := h1 d
    exact br_c (fun _ => p1) (fun z1 => br_c (fun _ => p1) (fun z2 => br_c (fun _ => p1) (fun z3 => absurd (hA.1 d) (fun q => q.elim z1 (fun q => q.elim z2 z3)))))
  · obtain ⟨y1, y2, y3⟩ := hA.2 d
    exact br_f y1 (br_f y2 (br_f y3 (h0 d)))
theorem zc_nb0 : narrow .boolean (.int (0 : Int32)) = .int 0 := by decide
theorem zc_nb1 : narrow .boolean (.int (1 : Int32)) = .int 1 := by decide
theorem zc_isSigned {post : Int32 → Prop} {m A c k : Nat} (hn : zc_net m A a1 a2 a3 a4 a10) (hm : m ≤ 12) (hc : c < m) (hk : ∀ j, k = j + 1 → j < m ∧ a11 j = nI j)
    (h1 : zc_sg A c k → post 1) (h0 : ¬ zc_sg A c k → post 0) : wpX_isSigned post (f0, f1, f2, f3, f4, f5, a1, a2, a3, a4, a5, a6, a7, a8, a9, a10, a11, a12, a13, a14, a15, a16, a17) (nI c) (zc_px k) := by
  have hi : vp_in (nI c) 12 := vp_in_nI (by omega) (by decide)
  unfold wpX_isSigned
  dsimp only
  cases k with
  | zero =>
    refine br_f (show ¬ (0 : Int32) ≤ -1 by decide) ?_
    exact zc_isAnchored hn hm hc (fun z => ⟨zc_nb1, h1 z⟩) (fun z => ⟨zc_nb0, h0 (fun q => absurd (show c < A from q) (by omega))⟩)
  | succ j =>
    obtain ⟨hj, ej⟩ := hk j rfl
    have hl : vp_in (nI j) 12 := vp_in_nI (by omega) (by decide)
    have hS := hn.2.1 c j hc hj
    rw [show zc_px (j + 1) = nI j from rfl]
    refine br_t (nI_pos' (by omega)) ⟨vp_in_nI (by omega) (by decide), ?_⟩
    rw [nI_clamp (show j < 2 ^ 31 by omega)]
    refine nm_r ej ?_
    rw [nI_clamp (show j < 2 ^ 31 by omega), nI_clamp (show c < 2 ^ 31 by omega)]
    refine ⟨hi, hl, ?_⟩
    by_cases e : c = j + 1
    · obtain ⟨q1, q2⟩ := hS.1 e
      exact br_t q1 ⟨hi, hl, br_t q2 (h1 e)⟩
    · exact br_f (hS.2 e) (h0 e)
theorem zc_openOf {post : Int32 → Prop} {A K k : Nat} (hr : zc_rec A K a7 a11 a12 a13 a14 a15) (hk : k ≤ K) (hK : K ≤ 12) (h : post (zc_O a7 k)) : wpX_openOf post (f0, f1, f2, f3, f4, f5, a1, a2, a3, a4, a5, a6, a7, a8, a9, a10, a11, a12, a13, a14, a15, a16, a17) (zc_px k) := by
  unfold wpX_openOf
  dsimp only
  cases k with
  | zero => exact br_f (show ¬ (0 : Int32) ≤ -1 by decide) h
  | succ j =>
    show (0 ≤ nI j → _) ∧ (¬ 0 ≤ nI j → _)
    refine br_t (nI_pos' (by omega)) ⟨vp_in_nI (by omega) (by decide), ?_⟩
    show post (a12 (nI j).toNatClampNeg)
    rw [nI_clamp (by omega), (hr j (by omega)).2.1]
    exact h
theorem zc_commonOf {post : Int32 → Prop} {A K k : Nat} (hr : zc_rec A K a7 a11 a12 a13 a14 a15) (hk : k ≤ K) (hK : K ≤ 12) (h : post (zc_P a7 k)) : wpX_commonOf post (f0, f1, f2, f3, f4, f5, a1, a2, a3, a4, a5, a6, a7, a8, a9, a10, a11, a12, a13, a14, a15, a16, a17) (zc_px k) := by
  unfold wpX_commonOf
  dsimp only
  cases k with
  | zero => exact br_f (show ¬ (0 : Int32) ≤ -1 by decide) h
  | succ j =>
    show (0 ≤ nI j → _) ∧ (¬ 0 ≤ nI j → _)
    refine br_t (nI_pos' (by omega)) ⟨vp_in_nI (by omega) (by decide), ?_⟩
    show post (a14 (nI j).toNatClampNeg)
    rw [nI_clamp (by omega), (hr j (by omega)).2.2.2.1]
    exact h
theorem zc_isOpen {post : Int32 → Prop} {A K k c : Nat} (hr : zc_rec A K a7 a11 a12 a13 a14 a15) (hk : k ≤ K) (hK : K ≤ 12) (hc : c < 12)
    (h1 : zc_op a3 (zc_O a7 k) c → post 1) (h0 : ¬ zc_op a3 (zc_O a7 k) c → post 0) : wpX_isOpen post (f0, f1, f2, f3, f4, f5, a1, a2, a3, a4, a5, a6, a7, a8, a9, a10, a11, a12, a13, a14, a15, a16, a17) (nI c) (zc_px k) := by
  have hi : vp_in (nI c) 12 := vp_in_nI (by omega) (by decide)
  unfold wpX_isOpen
  dsimp only
  rw [nI_clamp (by omega)]
  exact zc_openOf hr hk hK ⟨hi, br_c h1 h0⟩
/-- nobody beats the state at N: its certificate is new -/
theorem zc_beat0 {post : Int32 → Prop} {N : Nat} (hN : N < 1024) (h : ∀ k, k < N → ¬ a11 k = a11 N) (hp : post 0) : wpX_isBeaten post (f0, f1, f2, f3, f4, f5, a1, a2, a3, a4, a5, a6, a7, a8, a9, a10, a11, a12, a13, a14, a15, a16, a17) (nI N) := by
  have iN : vp_in (nI N) 1024 := vp_in_nI hN (by decide)
  show ∃ n, wX_isBeaten_2 post (nI N) f0 f1 f2 f3 f4 f5 a1 a2 a3 a4 a5 a6 a7 a8 a9 a10 a11 a12 a13 a14 a15 a16 a17 n 0
  refine pk_loop (σ := Unit) (fun n i _ => wX_isBeaten_2 post (nI N) f0 f1 f2 f3 f4 f5 a1 a2 a3 a4 a5 a6 a7 a8 a9 a10 a11 a12 a13 a14 a15 a16 a17 n (nI i)) (fun _ _ => True) N 0 () (by omega) trivial ?_ ?_
  · intro n s _
    exact pk_le N N (fun _ => hp) (fun z => absurd z (by omega))
  · intro n i s hi _ hw
    have ii : vp_in (nI i) 1024 := vp_in_nI (by omega) (by decide)
    have L : ∀ z, wX_isBeaten_63 post (wX_isBeaten_2 post (nI N) f0 f1 f2 f3 f4 f5 a1 a2 a3 a4 a5 a6 a7 a8 a9 a10 a11 a12 a13 a14 a15 a16 a17 n) (nI N) (nI i) z f0 f1 f2 f3 f4 f5 a1 a2 a3 a4 a5 a6 a7 a8 a9 a10 a11 a12 a13 a14 a15 a16 a17 := by
      intro z
      unfold wX_isBeaten_63
      rw [nI_clamp (show N < 2 ^ 31 by omega), nI_clamp (show i < 2 ^ 31 by omega)]
      exact ⟨ii, iN, br_f (h i hi) (nm_r (nI_1 i) (hw () trivial))⟩
    refine pk_le N i (fun z => absurd z (by omega)) (fun _ => ⟨iN, ii, br_c (fun _ => ⟨iN, ii, br_c (fun _ => ⟨iN, ii, br_c (fun _ => ?_) (fun _ => ?_)⟩) (fun _ => ?_)⟩) (fun _ => ?_)⟩)
    · exact L 0
    · exact L 1
    · exact L 0
    · exact L 0
/-- the state at N is beaten by that of c -/
theorem zc_beat1 {post : Int32 → Prop} {N c : Nat} (hN : N < 1024) (hc : c < N) (h : ∀ k, k < c → ¬ a11 k = a11 N) (h1 : a11 c = a11 N) (h2 : a12 N &&& (a12 c ^^^ (-1)) = 0) (h3 : a14 N &&& (a14 c ^^^ (-1)) = 0) (h4 : ¬ a13 c < a13 N) (hp : post 1) : wpX_isBeaten post (f0, f1, f2, f3, f4, f5, a1, a2, a3, a4, a5, a6, a7, a8, a9, a10, a11, a12, a13, a14, a15, a16, a17) (nI N) := by
  have iN : vp_in (nI N) 1024 := vp_in_nI hN (by decide)
  show ∃ n, wX_isBeaten_2 post (nI N) f0 f1 f2 f3 f4 f5 a1 a2 a3 a4 a5 a6 a7 a8 a9 a10 a11 a12 a13 a14 a15 a16 a17 n 0
  refine pk_loop (σ := Unit) (fun n i _ => wX_isBeaten_2 post (nI N) f0 f1 f2 f3 f4 f5 a1 a2 a3 a4 a5 a6 a7 a8 a9 a10 a11 a12 a13 a14 a15 a16 a17 n (nI i)) (fun _ _ => True) c 0 () (by omega) trivial ?_ ?_
  · intro n s _
    have ii : vp_in (nI c) 1024 := vp_in_nI (by omega) (by decide)
    show wX_isBeaten_2 post (nI N) f0 f1 f2 f3 f4 f5 a1 a2 a3 a4 a5 a6 a7 a8 a9 a10 a11 a12 a13 a14 a15 a16 a17 (n + 1) (nI c)
    unfold wX_isBeaten_2
    rw [nI_clamp (show N < 2 ^ 31 by omega), nI_clamp (show c < 2 ^ 31 by omega)]
    refine pk_le N c (fun z => absurd z (by omega)) (fun _ => ⟨iN, ii, br_t h2 ⟨iN, ii, br_t h3 ⟨iN, ii, br_f h4 ?_⟩⟩⟩)
    unfold wX_isBeaten_63
    rw [nI_clamp (show N < 2 ^ 31 by omega), nI_clamp (show c < 2 ^ 31 by omega)]
    exact ⟨ii, iN, br_t h1 (br_f (by decide) hp)⟩
  · intro n i s hi _ hw
    have ii : vp_in (nI i) 1024 := vp_in_nI (by omega) (by decide)
    have L : ∀ z, wX_isBeaten_63 post (wX_isBeaten_2 post (nI N) f0 f1 f2 f3 f4 f5 a1 a2 a3 a4 a5 a6 a7 a8 a9 a10 a11 a12 a13 a14 a15 a16 a17 n) (nI N) (nI i) z f0 f1 f2 f3 f4 f5 a1 a2 a3 a4 a5 a6 a7 a8 a9 a10 a11 a12 a13 a14 a15 a16 a17 := by
      intro z
      unfold wX_isBeaten_63
      rw [nI_clamp (show N < 2 ^ 31 by omega), nI_clamp (show i < 2 ^ 31 by omega)]
      exact ⟨ii, iN, br_f (h i hi) (nm_r (nI_1 i) (hw () trivial))⟩
    refine pk_le N i (fun z => absurd z (by omega)) (fun _ => ⟨iN, ii, br_c (fun _ => ⟨iN, ii, br_c (fun _ => ⟨iN, ii, br_c (fun _ => ?_) (fun _ => ?_)⟩) (fun _ => ?_)⟩) (fun _ => ?_)⟩)
    · exact L 0
    · exact L 1
    · exact L 0
    · exact L 0
end WALK
end
section
/-! ===== the walk: extend ===== -/
theorem zc_an (x : Int32) : x &&& (x ^^^ (-1)) = 0 := by
  apply Int32.toBitVec_inj.mp
  show x.toBitVec &&& (x.toBitVec ^^^ (-1 : Int32).toBitVec) = (0 : Int32).toBitVec
  have e1 : (-1 : Int32).toBitVec = BitVec.allOnes 32 := by decide
  have e0 : (0 : Int32).toBitVec = 0#32 := by decide
  rw [e1, e0, BitVec.xor_allOnes]
  ext i hi
  simp
theorem zc_rec_up {A N : Nat} {g b11 b12 b13 b14 b15 : Nat → Int32} {x1 x2 x3 x4 x5 : Int32} (hr : zc_rec A N g b11 b12 b13 b14 b15) : zc_rec A N g (upd b11 N x1) (upd b12 N x2) (upd b13 N x3) (upd b14 N x4) (upd b15 N x5) := by
  intro j hj
  have e : j ≠ N := by omega
  rw [pk_un e, pk_un e, pk_un e, pk_un e, pk_un e]
  exact hr j hj
theorem zc_rec_add {A N : Nat} {g b11 b12 b13 b14 b15 : Nat → Int32} (hr : zc_rec A N g b11 b12 b13 b14 b15) : zc_rec A (N + 1) g (upd b11 N (nI N)) (upd b12 N (zc_O g (N + 1))) (upd b13 N (zc_M g (N + 1))) (upd b14 N (zc_P g (N + 1))) (upd b15 N (zc_bf A N)) := by
  intro j hj
  by_cases e : j = N
  · subst e
    rw [pk_us, pk_us, pk_us, pk_us, pk_us]
    exact ⟨rfl, rfl, rfl, rfl, rfl⟩
  · rw [pk_un e, pk_un e, pk_un e, pk_un e, pk_un e]
    exact hr j (by omega)
section EXTEND
variable {f0 f1 f2 f3 f4 f5 : Int32} {a1 a2 a3 a4 a5 a6 a7 a8 a9 a10 a11 a12 a13 a14 a15 a16 a17 : Nat → Int32}
theorem zc_e207 {post : St2 → Prop} {A N c : Nat} {x : Int32} (hr : zc_rec A N a7 a11 a12 a13 a14 a15) (hN : N ≤ 12) (hc : c ≤ N) (hx : c = N → x = zc_bf A N)
    (h1 : c = N → ∀ b11 b12 b13 b14 b15 : Nat → Int32, zc_rec A (N + 1) a7 b11 b12 b13 b14 b15 → post (f0, nI (N + 1), f2, f3, f4, f5, a1, a2, a3, a4, a5, a6, a7, a8, a9, a10, b11, b12, b13, b14, b15, a16, a17))
    (h0 : c < N → ∀ b11 b12 b13 b14 b15 : Nat → Int32, zc_rec A N a7 b11 b12 b13 b14 b15 → post (f0, nI N, f2, f3, f4, f5, a1, a2, a3, a4, a5, a6, a7, a8, a9, a10, b11, b12, b13, b14, b15, a16, a17)) :
    wX_extend_207 post x (zc_P a7 (c + 1)) (nI N) (zc_M a7 (c + 1)) (nI N) f0 (nI N) f2 f3 f4 f5 a1 a2 a3 a4 a5 a6 a7 a8 a9 a10 (upd a11 N (nI c)) (upd a12 N (zc_O a7 (c + 1))) a13 a14 a15 a16 a17 := by
  have iN : vp_in (nI N) 1024 := vp_in_nI (by omega) (by decide)
  unfold wX_extend_207
  rw [nI_clamp (show N < 2 ^ 31 by omega)]
  refine ⟨iN, nm_e ⟨iN, nm_e ⟨iN, nm_e ?_⟩⟩⟩
  by_cases e : c = N
  · subst e
    refine zc_beat0 (by omega) (fun k hk => ?_) (br_t rfl (nm_r (nI_1 _) (h1 rfl _ _ _ _ _ ?_)))
    · rw [pk_un (show k ≠ c by omega), pk_us, (hr k hk).1]
      intro z
      exact absurd ((nI_eq (by omega) (by omega)).mp z) (by omega)
    · rw [hx rfl]
      exact zc_rec_add hr
  · have hl : c < N := by omega
    obtain ⟨r1, r2, r3, r4, r5⟩ := hr c hl
    have ec : c ≠ N := e
    refine zc_beat1 (c := c) (by omega) hl (fun k hk => ?_) ?_ ?_ ?_ ?_ (br_f (by decide) (h0 hl _ _ _ _ _ (zc_rec_up hr)))
    · rw [pk_un (show k ≠ N by omega), pk_us, (hr k (by omega)).1]
      intro z
      exact absurd ((nI_eq (by omega) (by omega)).mp z) (by omega)
    · rw [pk_un ec, pk_us, r1]
    · rw [pk_un ec, pk_us, r2]
      exact zc_an _
    · rw [pk_un ec, pk_us, r4]
      exact zc_an _
    · rw [pk_un ec, pk_us, r3]
      exact Int32.lt_irrefl
theorem zc_e110 {post : St2 → Prop} {m A N c k : Nat} (hf : zc_flat A a7) (hs : zc_sg A c k) (hr : zc_rec A N a7 a11 a12 a13 a14 a15) (hN : N ≤ 12) (hk : k ≤ N) (hm : m ≤ 12) (hcm : c < m) (hc : c ≤ N) (hx : c = N → zc_px k = zc_bf A N)
    (h1 : c = N → ∀ b11 b12 b13 b14 b15 : Nat → Int32, zc_rec A (N + 1) a7 b11 b12 b13 b14 b15 → post (f0, nI (N + 1), f2, f3, f4, f5, a1, a2, a3, a4, a5, a6, a7, a8, a9, a10, b11, b12, b13, b14, b15, a16, a17))
    (h0 : c < N → ∀ b11 b12 b13 b14 b15 : Nat → Int32, zc_rec A N a7 b11 b12 b13 b14 b15 → post (f0, nI N, f2, f3, f4, f5, a1, a2, a3, a4, a5, a6, a7, a8, a9, a10, b11, b12, b13, b14, b15, a16, a17)) :
    wX_extend_110 post (nI c) (zc_px k) (zc_P a7 (c + 1)) (zc_cm (zc_M a7 c)) f0 (nI N) f2 f3 f4 f5 a1 a2 a3 a4 a5 a6 a7 a8 a9 a10 a11 a12 a13 a14 a15 a16 a17 := by
  have iN : vp_in (nI N) 1024 := vp_in_nI (by omega) (by decide)
  have key := zc_e207 (f0 := f0) (f2 := f2) (f3 := f3) (f4 := f4) (f5 := f5) (a1 := a1) (a2 := a2) (a3 := a3) (a4 := a4) (a5 := a5) (a6 := a6) (a8 := a8) (a9 := a9) (a10 := a10) (a16 := a16) (a17 := a17) hr hN hc hx h1 h0
  unfold wX_extend_110
  rw [zc_i1, zc_i2, zc_i3, nI_clamp (show 5 * c + 1 < 2 ^ 31 by omega), nI_clamp (show 5 * c + 2 < 2 ^ 31 by omega), nI_clamp (show 5 * c + 3 < 2 ^ 31 by omega), nI_clamp (show N < 2 ^ 31 by omega)]
  have eO : (zc_O a7 k &&& a7 (5 * c + 2)) &&& (a7 (5 * c + 3) ^^^ (-1)) = zc_O a7 (c + 1) := by
    rw [(zc_sgO hf hs).1]
    rfl
  refine ⟨vp_in_nI (by omega) (by decide), nm_e (zc_openOf hr hk hN ⟨vp_in_nI (by omega) (by decide), vp_in_nI (by omega) (by decide), nm_r eO (br_t (nI_lt (b := 1024) (by omega) (by decide)) ⟨iN, nm_e ⟨iN, nm_e ?_⟩⟩)⟩)⟩
  have eM : zc_M a7 (c + 1) = if zc_cm (zc_M a7 c) ≤ a7 (5 * c + 1) then zc_cm (zc_M a7 c) else a7 (5 * c + 1) := rfl
  by_cases hl : zc_cm (zc_M a7 c) ≤ a7 (5 * c + 1)
  · rw [eM, if_pos hl] at key
    exact br_t hl key
  · rw [eM, if_neg hl] at key
    exact br_f hl key
theorem zc_e93 {post : St2 → Prop} {m A N c k : Nat} (hf : zc_flat A a7) (hs : zc_sg A c k) (hr : zc_rec A N a7 a11 a12 a13 a14 a15) (hN : N ≤ 12) (hk : k ≤ N) (hm : m ≤ 12) (hcm : c < m) (hc : c ≤ N) (hx : c = N → zc_px k = zc_bf A N)
    (h1 : c = N → ∀ b11 b12 b13 b14 b15 : Nat → Int32, zc_rec A (N + 1) a7 b11 b12 b13 b14 b15 → post (f0, nI (N + 1), f2, f3, f4, f5, a1, a2, a3, a4, a5, a6, a7, a8, a9, a10, b11, b12, b13, b14, b15, a16, a17))
    (h0 : c < N → ∀ b11 b12 b13 b14 b15 : Nat → Int32, zc_rec A N a7 b11 b12 b13 b14 b15 → post (f0, nI N, f2, f3, f4, f5, a1, a2, a3, a4, a5, a6, a7, a8, a9, a10, b11, b12, b13, b14, b15, a16, a17)) :
    wX_extend_93 post (nI c) (zc_px k) (zc_M a7 c) 0 (zc_P a7 (c + 1)) f0 (nI N) f2 f3 f4 f5 a1 a2 a3 a4 a5 a6 a7 a8 a9 a10 a11 a12 a13 a14 a15 a16 a17 := by
  have key := zc_e110 (f0 := f0) (f2 := f2) (f3 := f3) (f4 := f4) (f5 := f5) (a1 := a1) (a2 := a2) (a3 := a3) (a4 := a4) (a5 := a5) (a6 := a6) (a8 := a8) (a9 := a9) (a10 := a10) (a16 := a16) (a17 := a17) hf hs hr hN hk hm hcm hc hx h1 h0
  unfold wX_extend_93
  refine br_t rfl ?_
  unfold zc_cm at key
  by_cases h4 : zc_M a7 c = 4
  · rw [if_pos h4] at key
    exact br_t h4 key
  · rw [if_neg h4] at key
    exact br_f h4 key
theorem zc_e14 {post : St2 → Prop} {m A N c k : Nat} (hn : zc_net m A a1 a2 a3 a4 a10) (hm : m ≤ 12) (hf : zc_flat A a7) (hr : zc_rec A N a7 a11 a12 a13 a14 a15) (hN : N ≤ m) (hcm : c < m) (hk : k ≤ N)
    (hs : zc_sg A c k → c ≤ N ∧ (c = N → zc_px k = zc_bf A N))
    (h1 : zc_sg A c k → c = N → zc_Ext f3 f4 a3 a5 a6 a7 a8 a9 N → ∀ b11 b12 b13 b14 b15 : Nat → Int32, zc_rec A (N + 1) a7 b11 b12 b13 b14 b15 → post (f0, nI (N + 1), f2, f3, f4, f5, a1, a2, a3, a4, a5, a6, a7, a8, a9, a10, b11, b12, b13, b14, b15, a16, a17))
    (h0 : ¬ (zc_sg A c k ∧ c = N ∧ zc_Ext f3 f4 a3 a5 a6 a7 a8 a9 N) → ∀ b11 b12 b13 b14 b15 : Nat → Int32, zc_rec A N a7 b11 b12 b13 b14 b15 → post (f0, nI N, f2, f3, f4, f5, a1, a2, a3, a4, a5, a6, a7, a8, a9, a10, b11, b12, b13, b14, b15, a16, a17)) :
    wX_extend_14 post (nI c) (zc_px k) (zc_M a7 k) f0 (nI N) f2 f3 f4 f5 a1 a2 a3 a4 a5 a6 a7 a8 a9 a10 a11 a12 a13 a14 a15 a16 a17 := by
  have no : ¬ (zc_sg A c k ∧ c = N ∧ zc_Ext f3 f4 a3 a5 a6 a7 a8 a9 N) → post (f0, nI N, f2, f3, f4, f5, a1, a2, a3, a4, a5, a6, a7, a8, a9, a10, a11, a12, a13, a14, a15, a16, a17) := fun z => h0 z _ _ _ _ _ hr
  have hx : zc_sg A c k ∧ c = N ∧ zc_Ext f3 f4 a3 a5 a6 a7 a8 a9 N → ¬ a7 (5 * c) = 0 ∧ zc_good f3 f4 a5 a6 a8 a9 c ∧ zc_sg A c k ∧ ¬ zc_P a7 k &&& a7 (5 * c + 4) = 0 ∧ ¬ zc_M a7 k = 0 ∧ zc_op a3 (zc_O a7 k) c := by
    rintro ⟨s, e, E⟩
    obtain ⟨q1, q2, q3⟩ := zc_sgO hf s
    rw [q1, q2, q3, e]
    exact ⟨E.1, E.2.1, e ▸ s, E.2.2.1, E.2.2.2.1, E.2.2.2.2⟩
  unfold wX_extend_14
  rw [zc_i4, zc_i0, nI_clamp (show 5 * c + 4 < 2 ^ 31 by omega), nI_clamp (show 5 * c < 2 ^ 31 by omega)]
  refine zc_isSelf hn hm hcm (zc_commonOf hr hk (by omega) ⟨vp_in_nI (by omega) (by decide), nm_e ⟨vp_in_nI (by omega) (by decide), br_c (fun z => no (fun q => (hx q).1 z)) (fun z1 => ?_)⟩⟩)
  refine zc_isGood (by omega) (fun z2 => br_f (by decide) ?_) (fun z => br_t rfl (no (fun q => z (hx q).2.1)))
  refine zc_isSigned hn hm hcm (fun j ej => ⟨by omega, (hr j (by omega)).1⟩) (fun z3 => br_f (by decide) ?_) (fun z => br_t rfl (no (fun q => z (hx q).2.2.1)))
  refine br_c (fun z => no (fun q => (hx q).2.2.2.1 z)) (fun z4 => br_t rfl (br_c (fun z => no (fun q => (hx q).2.2.2.2.1 z)) (fun z5 => ?_)))
  refine zc_isOpen hr hk (by omega) (by omega) (fun z6 => br_f (by decide) ?_) (fun z => br_t rfl (no (fun q => z (hx q).2.2.2.2.2)))
  obtain ⟨q1, q2, q3⟩ := zc_sgO hf z3
  rw [q3]
  have eP : zc_P a7 k &&& a7 (5 * c + 4) = zc_P a7 (c + 1) := by
    rw [q2]
    rfl
  rw [eP] at z4 ⊢
  rw [q3] at z5
  rw [q1] at z6
  obtain ⟨hc, hb⟩ := hs z3
  refine zc_e93 hf z3 hr (by omega) hk hm hcm hc hb (fun e => ?_) (fun e => h0 (fun q => absurd q.2.1 (by omega)))
  exact h1 z3 e (by rw [← e]; exact ⟨z1, z2, z4, z5, z6⟩)
theorem zc_step {post : St2 → Prop} {m A N c k : Nat} (hn : zc_net m A a1 a2 a3 a4 a10) (hm : m ≤ 12) (hf : zc_flat A a7) (hr : zc_rec A N a7 a11 a12 a13 a14 a15) (hN : N ≤ m) (hcm : c < m) (hk : k ≤ N)
    (hs : zc_sg A c k → c ≤ N ∧ (c = N → zc_px k = zc_bf A N))
    (h1 : zc_sg A c k → c = N → zc_Ext f3 f4 a3 a5 a6 a7 a8 a9 N → ∀ b11 b12 b13 b14 b15 : Nat → Int32, zc_rec A (N + 1) a7 b11 b12 b13 b14 b15 → post (f0, nI (N + 1), f2, f3, f4, f5, a1, a2, a3, a4, a5, a6, a7, a8, a9, a10, b11, b12, b13, b14, b15, a16, a17))
    (h0 : ¬ (zc_sg A c k ∧ c = N ∧ zc_Ext f3 f4 a3 a5 a6 a7 a8 a9 N) → ∀ b11 b12 b13 b14 b15 : Nat → Int32, zc_rec A N a7 b11 b12 b13 b14 b15 → post (f0, nI N, f2, f3, f4, f5, a1, a2, a3, a4, a5, a6, a7, a8, a9, a10, b11, b12, b13, b14, b15, a16, a17)) :
    wpX_extend post (f0, nI N, f2, f3, f4, f5, a1, a2, a3, a4, a5, a6, a7, a8, a9, a10, a11, a12, a13, a14, a15, a16, a17) (nI c) (zc_px k) := by
  have core := zc_e14 hn hm hf hr hN hcm hk hs h1 h0
  unfold wpX_extend
  dsimp only
  cases k with
  | zero => exact br_f (show ¬ (0 : Int32) ≤ -1 by decide) core
  | succ j =>
    have e : a13 (nI j).toNatClampNeg = zc_M a7 (j + 1) := by
      rw [nI_clamp (by omega)]
      exact (hr j (by omega)).2.2.1
    rw [← e] at core
    exact br_t (nI_pos' (n := j) (by omega)) ⟨vp_in_nI (by omega) (by decide), core⟩
end EXTEND
end
section
/-! ===== the walk: findStates ===== -/
theorem zc_dm {m q c : Nat} (hc : c < m) : (q * m + c) / m = q ∧ (q * m + c) % m = c := by
  constructor
  · rw [Nat.add_comm, Nat.add_mul_div_right _ _ (by omega), Nat.div_eq_of_lt hc, Nat.zero_add]
  · rw [Nat.add_comm, Nat.add_mul_mod_self_right, Nat.mod_eq_of_lt hc]
/-- where a turn of the inner loop stands: i = q * m + c -/
theorem zc_turn {m b e i : Nat} (hm : 0 < m) (hb : b ≤ e) (hi : i < (e - b) * m) : ∃ q c, i / m = q ∧ i % m = c ∧ c < m ∧ b + q < e ∧ i = q * m + c := by
  refine ⟨i / m, i % m, rfl, rfl, Nat.mod_lt _ hm, ?_, ?_⟩
  · have := Nat.div_lt_of_lt_mul (show i < m * (e - b) by rw [Nat.mul_comm]; exact hi)
    omega
  · rw [Nat.mul_comm]
    exact (Nat.div_add_mod i m).symm
section FIND
variable {f0 f1 f2 f3 f4 f5 : Int32} {a1 a2 a3 a4 a5 a6 a7 a8 a9 a10 a11 a12 a13 a14 a15 a16 a17 : Nat → Int32}
theorem zc_f94 {post : St2 → Prop} {J : Int32 → Int32 → Int32 → Int32 → Int32 → Int32 → Int32 → (Nat → Int32) → (Nat → Int32) → (Nat → Int32) → (Nat → Int32) → (Nat → Int32) → (Nat → Int32) → (Nat → Int32) → (Nat → Int32) → (Nat → Int32) → (Nat → Int32) → (Nat → Int32) → (Nat → Int32) → (Nat → Int32) → (Nat → Int32) → (Nat → Int32) → (Nat → Int32) → (Nat → Int32) → Prop}
    {x3 : Int32} {m A b e r : Nat} (hn : zc_net m A a1 a2 a3 a4 a10) (hm : m ≤ 12) (hm0 : 0 < m) (hf : zc_flat A a7) (hb : b ≤ e) (he : e ≤ m) (hA : b < e → A ≤ e) (hr6 : r < 6)
    (hst : b = e → e < m → ¬ zc_Ext f3 f4 a3 a5 a6 a7 a8 a9 e) (hr : zc_rec A e a7 a11 a12 a13 a14 a15)
    (H : ∀ (N : Nat) (b11 b12 b13 b14 b15 : Nat → Int32), ((N = e ∧ (e < m → ¬ zc_Ext f3 f4 a3 a5 a6 a7 a8 a9 e)) ∨ (N = e + 1 ∧ b < e ∧ e < m ∧ zc_Ext f3 f4 a3 a5 a6 a7 a8 a9 e)) → zc_rec A N a7 b11 b12 b13 b14 b15 →
      J (x3 + 1) (nI m) (nI N) (nI (r + 1)) f3 f4 f5 a1 a2 a3 a4 a5 a6 a7 a8 a9 a10 b11 b12 b13 b14 b15 (upd a16 (r + 1) (nI N)) a17) :
    ∃ n, wX_findStates_94 post J x3 (nI b) (nI e) n 0 (nI m) (nI e) (nI r) f3 f4 f5 a1 a2 a3 a4 a5 a6 a7 a8 a9 a10 a11 a12 a13 a14 a15 a16 a17 := by
  have hlim : (nI e - nI b) * nI m = nI ((e - b) * m) := by rw [pk_sub hb, pk_mul]
  have hbig : (e - b) * m ≤ 12 * 12 := Nat.mul_le_mul (by omega) hm
  refine pk_loop (σ := Nat × (Nat → Int32) × (Nat → Int32) × (Nat → Int32) × (Nat → Int32) × (Nat → Int32))
    (fun n i s => wX_findStates_94 post J x3 (nI b) (nI e) n (nI i) (nI m) (nI s.1) (nI r) f3 f4 f5 a1 a2 a3 a4 a5 a6 a7 a8 a9 a10 s.2.1 s.2.2.1 s.2.2.2.1 s.2.2.2.2.1 s.2.2.2.2.2 a16 a17)
    (fun i s => zc_rec A s.1 a7 s.2.1 s.2.2.1 s.2.2.2.1 s.2.2.2.2.1 s.2.2.2.2.2 ∧
      ((s.1 = e ∧ ((e - 1 - b) * m + e < i → e < m → ¬ zc_Ext f3 f4 a3 a5 a6 a7 a8 a9 e)) ∨ (s.1 = e + 1 ∧ b < e ∧ e < m ∧ zc_Ext f3 f4 a3 a5 a6 a7 a8 a9 e ∧ (e - 1 - b) * m + e < i)))
    ((e - b) * m) 0 (e, a11, a12, a13, a14, a15) (by omega) ⟨hr, Or.inl ⟨rfl, fun z => absurd z (by omega)⟩⟩ ?_ ?_
  · rintro n ⟨N, b11, b12, b13, b14, b15⟩ ⟨hrN, hd⟩
    refine pk_le ((e - b) * m) ((e - b) * m) (fun _ => ?_) (fun z => absurd z (by omega)) (hx := hlim)
    refine nm_r (nI_1 r) ⟨vp_in_nI (by omega) (by decide), ?_⟩
    rw [nI_clamp (show r + 1 < 2 ^ 31 by omega)]
    refine nm_e (nm_e (H N b11 b12 b13 b14 b15 ?_ hrN))
    rcases hd with ⟨e1, e2⟩ | ⟨e1, e2, e3, e4, e5⟩
    · refine Or.inl ⟨e1, fun hem => ?_⟩
      by_cases hbe : b = e
      · exact hst hbe hem
      · refine e2 ?_ hem
        have : (e - b) * m = (e - 1 - b) * m + m := by
          rw [show e - b = (e - 1 - b) + 1 by omega, Nat.succ_mul]
        omega
    · exact Or.inr ⟨e1, e2, e3, e4⟩
  · rintro n i ⟨N, b11, b12, b13, b14, b15⟩ hi ⟨hrN, hd⟩ hw
    have hrN' : zc_rec A N a7 b11 b12 b13 b14 b15 := hrN
    have hd' : (N = e ∧ ((e - 1 - b) * m + e < i → e < m → ¬ zc_Ext f3 f4 a3 a5 a6 a7 a8 a9 e)) ∨ (N = e + 1 ∧ b < e ∧ e < m ∧ zc_Ext f3 f4 a3 a5 a6 a7 a8 a9 e ∧ (e - 1 - b) * m + e < i) := hd
    obtain ⟨q, c, eq, ec, hc, hq, ei⟩ := zc_turn hm0 hb hi
    have hN : N ≤ m ∧ e ≤ N := by
      rcases hd' with ⟨e1, _⟩ | ⟨e1, _, e3, _⟩ <;> omega
    refine pk_le ((e - b) * m) i (fun z => absurd z (by omega)) (fun _ => ?_) (hx := hlim)
    have hm1 : ¬ nI m = 0 := nI_ne0 hm0 (by omega)
    refine ⟨hm1, hm1, ?_⟩
    rw [pk_rem (show i < 2 ^ 31 by omega) hm0 (by omega), pk_div (show i < 2 ^ 31 by omega) hm0 (by omega), nI_add, eq, ec]
    have hsg : zc_sg A c (b + q + 1) → c = b + q + 1 := fun z => z
    have hqe : b + q + 1 = e → q = e - 1 - b := fun z => by omega
    show wpX_extend _ _ (nI c) (zc_px (b + q + 1))
    refine zc_step hn hm hf hrN' hN.1 hc (by omega) (fun z => ?_) (fun z1 z2 z3 c11 c12 c13 c14 c15 hc' => ?_) (fun z c11 c12 c13 c14 c15 hc' => ?_)
    · have z' := hsg z
      refine ⟨by omega, fun zN => ?_⟩
      have hNe : N = e := by omega
      unfold zc_bf
      rw [if_neg (show ¬ N < A by have := hA (by omega); omega)]
      show nI (b + q) = nI (N - 1)
      rw [show b + q = N - 1 by omega]
    · have z' := hsg z1
      have hNe : N = e := by omega
      subst hNe
      refine nm_r (nI_1 i) (hw (N + 1, c11, c12, c13, c14, c15) ⟨hc', Or.inr ⟨rfl, by omega, by omega, z3, ?_⟩⟩)
      rw [← hqe (by omega)]
      omega
    · refine nm_r (nI_1 i) (hw (N, c11, c12, c13, c14, c15) ⟨hc', ?_⟩)
      rcases hd' with ⟨e1, e2⟩ | ⟨e1, e2, e3, e4, e5⟩
      · refine Or.inl ⟨e1, fun z1 z2 => ?_⟩
        by_cases z3 : (e - 1 - b) * m + e < i
        · exact e2 z3 z2
        · intro z4
          have ei2 : i = (e - 1 - b) * m + e := by omega
          have hbe : b < e := by omega
          have p := zc_dm (m := m) (q := e - 1 - b) (c := e) z2
          rw [← ei2, eq, ec] at p
          refine z ⟨?_, ?_, ?_⟩
          · show c = b + q + 1
            omega
          · omega
          · rw [e1]
            exact z4
      · exact Or.inr ⟨e1, e2, e3, e4, by omega⟩
theorem zc_f61 {post : St2 → Prop} {m A N0 : Nat} (hn : zc_net m A a1 a2 a3 a4 a10) (hm : m ≤ 12) (hm0 : 0 < m) (hA0 : 0 < A) (hf : zc_flat A a7)
    (h0 : a16 0 = 0) (h1 : a16 1 = nI N0) (hN : N0 ≤ m) (hr : zc_rec A N0 a7 a11 a12 a13 a14 a15) (hE : ∀ j, j < N0 → zc_Ext f3 f4 a3 a5 a6 a7 a8 a9 j)
    (hd : N0 = A ∨ (N0 = 0 ∧ ¬ zc_Ext f3 f4 a3 a5 a6 a7 a8 a9 0))
    (H : ∀ (K : Nat) (r : Int32) (b11 b12 b13 b14 b15 b16 : Nat → Int32), K ≤ m → K ≤ 4 + A → (∀ j, j < K → zc_Ext f3 f4 a3 a5 a6 a7 a8 a9 j) → (K < m → K < 4 + A → ¬ zc_Ext f3 f4 a3 a5 a6 a7 a8 a9 K) →
      zc_rec A K a7 b11 b12 b13 b14 b15 → post (nI m, nI K, r, f3, f4, f5, a1, a2, a3, a4, a5, a6, a7, a8, a9, a10, b11, b12, b13, b14, b15, b16, a17)) :
    ∃ n, wX_findStates_61 post n 2 (nI m) (nI N0) 1 f3 f4 f5 a1 a2 a3 a4 a5 a6 a7 a8 a9 a10 a11 a12 a13 a14 a15 a16 a17 := by
  refine loop_0 (σ := Nat × (Nat → Int32) × (Nat → Int32) × (Nat → Int32) × (Nat → Int32) × (Nat → Int32) × (Nat → Int32))
    (fun n i s => wX_findStates_61 post n (nI (i + 2)) (nI m) (nI s.1) (nI (i + 1)) f3 f4 f5 a1 a2 a3 a4 a5 a6 a7 a8 a9 a10 s.2.1 s.2.2.1 s.2.2.2.1 s.2.2.2.2.1 s.2.2.2.2.2.1 s.2.2.2.2.2.2 a17)
    (fun i s => zc_rec A s.1 a7 s.2.1 s.2.2.1 s.2.2.2.1 s.2.2.2.2.1 s.2.2.2.2.2.1 ∧ s.1 ≤ m ∧ (∀ j, j < s.1 → zc_Ext f3 f4 a3 a5 a6 a7 a8 a9 j) ∧
      ∃ b : Nat, s.2.2.2.2.2.2 i = nI b ∧ s.2.2.2.2.2.2 (i + 1) = nI s.1 ∧ ((b < s.1 ∧ s.1 = i + A) ∨ (b = s.1 ∧ (s.1 < m → ¬ zc_Ext f3 f4 a3 a5 a6 a7 a8 a9 s.1) ∧ s.1 ≤ i + A)))
    4 (N0, a11, a12, a13, a14, a15, a16) ⟨hr, hN, hE, 0, h0, h1, ?_⟩ ?_ ?_
  · rcases hd with e | ⟨e, e2⟩
    · exact Or.inl ⟨by show 0 < N0; omega, by show N0 = 0 + A; omega⟩
    · subst e
      exact Or.inr ⟨rfl, fun _ => e2, by show 0 ≤ 0 + A; omega⟩
  · rintro n ⟨N, b11, b12, b13, b14, b15, b16⟩ ⟨q1, q2, q3, b, q4, q5, q6⟩
    refine pk_le 6 6 (fun _ => H N _ b11 b12 b13 b14 b15 b16 q2 ?_ q3 ?_ q1) (fun z => absurd z (by omega))
    · rcases q6 with ⟨_, e⟩ | ⟨_, _, e⟩
      · exact Nat.le_of_eq e
      · exact e
    · intro z1 z2
      rcases q6 with ⟨_, e⟩ | ⟨_, e, _⟩
      · have e' : N = 4 + A := e
        omega
      · exact e z1
  · rintro n i ⟨N, b11, b12, b13, b14, b15, b16⟩ hi ⟨q1, q2, q3, b, q4, q5, q6⟩ hw
    have p1 : zc_rec A N a7 b11 b12 b13 b14 b15 := q1
    have p2 : N ≤ m := q2
    have p3 : ∀ j, j < N → zc_Ext f3 f4 a3 a5 a6 a7 a8 a9 j := q3
    have p4 : b16 i = nI b := q4
    have p5 : b16 (i + 1) = nI N := q5
    have p6 : (b < N ∧ N = i + A) ∨ (b = N ∧ (N < m → ¬ zc_Ext f3 f4 a3 a5 a6 a7 a8 a9 N) ∧ N ≤ i + A) := q6
    have hbN : b ≤ N := by rcases p6 with ⟨e, _⟩ | ⟨e, _⟩ <;> omega
    have er : nI (i + 1) - 1 = nI i := nI_pred i
    refine pk_le 6 (i + 2) (fun z => absurd z (by omega)) (fun _ => ?_)
    rw [er, nI_clamp (show i < 2 ^ 31 by omega), nI_clamp (show i + 1 < 2 ^ 31 by omega)]
    refine ⟨vp_in_nI (by omega) (by decide), nm_r p4 ⟨vp_in_nI (by omega) (by decide), nm_r p5 ?_⟩⟩
    refine zc_f94 hn hm hm0 hf hbN p2 (fun z => ?_) (by omega) (fun z => ?_) p1 (fun N' c11 c12 c13 c14 c15 hd' hr' => ?_)
    · rcases p6 with ⟨_, e⟩ | ⟨e, _⟩ <;> omega
    · rcases p6 with ⟨e, _⟩ | ⟨_, e, _⟩
      · omega
      · exact e
    · have hgo := hw (N', c11, c12, c13, c14, c15, upd b16 (i + 2) (nI N')) ⟨hr', ?_, ?_, N, ?_, ?_, ?_⟩
      · rw [show nI (i + 2) + 1 = nI (i + 1 + 2) from nI_1 (i + 2)]
        exact hgo
      · show N' ≤ m
        rcases hd' with ⟨e, _⟩ | ⟨e, _, e3, _⟩ <;> omega
      · show ∀ j, j < N' → zc_Ext f3 f4 a3 a5 a6 a7 a8 a9 j
        intro j hj
        rcases hd' with ⟨e, _⟩ | ⟨e, _, _, e4⟩
        · exact p3 j (by omega)
        · by_cases ej : j = N
          · rw [ej]; exact e4
          · exact p3 j (by omega)
      · show upd b16 (i + 2) (nI N') (i + 1) = nI N
        rw [pk_un (by omega)]
        exact p5
      · show upd b16 (i + 2) (nI N') (i + 1 + 1) = nI N'
        exact pk_us
      · show (N < N' ∧ N' = i + 1 + A) ∨ (N = N' ∧ (N' < m → ¬ zc_Ext f3 f4 a3 a5 a6 a7 a8 a9 N') ∧ N' ≤ i + 1 + A)
        rcases hd' with ⟨e, e2⟩ | ⟨e, e2, e3, e4⟩
        · refine Or.inr ⟨by omega, ?_, ?_⟩
          · rw [e]; exact e2
          · rcases p6 with ⟨_, k⟩ | ⟨_, _, k⟩ <;> omega
        · rcases p6 with ⟨_, k⟩ | ⟨k, _⟩
          · exact Or.inl ⟨by omega, by omega⟩
          · omega
theorem zc_find {post : St2 → Prop} {m A : Nat} {t w : Int32} (hn : zc_net m A a1 a2 a3 a4 a10) (hm : m ≤ 12) (hA0 : 0 < A) (hAm : A ≤ m) (hf : zc_flat A a7)
    (hA : A = 1 ∨ ∀ c, c < m → zc_Ext t w a3 a5 a6 a7 a8 a9 c)
    (H : ∀ (K : Nat) (r : Int32) (b11 b12 b13 b14 b15 b16 : Nat → Int32), K ≤ m → K ≤ 4 + A → (∀ j, j < K → zc_Ext t w a3 a5 a6 a7 a8 a9 j) → (K < m → K < 4 + A → ¬ zc_Ext t w a3 a5 a6 a7 a8 a9 K) →
      zc_rec A K a7 b11 b12 b13 b14 b15 → post (nI m, nI K, r, t, w, f5, a1, a2, a3, a4, a5, a6, a7, a8, a9, a10, b11, b12, b13, b14, b15, b16, a17)) :
    wpX_findStates post (nI m, f1, f2, f3, f4, f5, a1, a2, a3, a4, a5, a6, a7, a8, a9, a10, a11, a12, a13, a14, a15, a16, a17) t w := by
  unfold wpX_findStates
  dsimp only
  refine nm_e ?_
  refine loop_0 (σ := Nat × (Nat → Int32) × (Nat → Int32) × (Nat → Int32) × (Nat → Int32) × (Nat → Int32))
    (fun n i s => wX_findStates_24 post n (nI i) (nI m) (nI s.1) f2 t w f5 a1 a2 a3 a4 a5 a6 a7 a8 a9 a10 s.2.1 s.2.2.1 s.2.2.2.1 s.2.2.2.2.1 s.2.2.2.2.2 (upd a16 0 0) a17)
    (fun i s => zc_rec A s.1 a7 s.2.1 s.2.2.1 s.2.2.2.1 s.2.2.2.2.1 s.2.2.2.2.2 ∧ (∀ j, j < s.1 → zc_Ext t w a3 a5 a6 a7 a8 a9 j) ∧
      (s.1 = min i A ∨ (A = 1 ∧ s.1 = 0 ∧ 0 < i ∧ ¬ zc_Ext t w a3 a5 a6 a7 a8 a9 0)))
    m (0, a11, a12, a13, a14, a15) ⟨fun j hj => absurd hj (Nat.not_lt_zero j), fun j hj => absurd hj (Nat.not_lt_zero j), Or.inl (Nat.zero_min A).symm⟩ ?_ ?_
  · rintro n ⟨N, b11, b12, b13, b14, b15⟩ ⟨q1, q2, q3⟩
    have p3 : N = min m A ∨ (A = 1 ∧ N = 0 ∧ 0 < m ∧ ¬ zc_Ext t w a3 a5 a6 a7 a8 a9 0) := q3
    refine pk_le m m (fun _ => nm_e ?_) (fun z => absurd z (by omega))
    refine zc_f61 (N0 := N) hn hm (by omega) hA0 hf ?_ ?_ ?_ q1 q2 ?_ H
    · rw [pk_un (by decide)]
      exact pk_us
    · exact pk_us
    · rcases p3 with e | ⟨_, e, _⟩ <;> omega
    · rcases p3 with e | ⟨_, e, _, e2⟩
      · exact Or.inl (by omega)
      · exact Or.inr ⟨e, e2⟩
  · rintro n i ⟨N, b11, b12, b13, b14, b15⟩ hi ⟨q1, q2, q3⟩ hw
    have p1 : zc_rec A N a7 b11 b12 b13 b14 b15 := q1
    have p2 : ∀ j, j < N → zc_Ext t w a3 a5 a6 a7 a8 a9 j := q2
    have p3 : N = min i A ∨ (A = 1 ∧ N = 0 ∧ 0 < i ∧ ¬ zc_Ext t w a3 a5 a6 a7 a8 a9 0) := q3
    refine pk_le m i (fun z => absurd z (by omega)) (fun _ => ?_)
    show wpX_extend _ _ (nI i) (zc_px 0)
    refine zc_step hn hm hf p1 (by rcases p3 with e | ⟨_, e, _⟩ <;> omega) hi (Nat.zero_le _) (fun z => ?_) (fun z1 z2 z3 c11 c12 c13 c14 c15 hc' => ?_) (fun z c11 c12 c13 c14 c15 hc' => ?_)
    · have z' : i < A := z
      refine ⟨by rcases p3 with e | ⟨e0, e, e1, _⟩ <;> omega, fun zN => ?_⟩
      unfold zc_bf
      rw [if_pos (show N < A by omega)]
      rfl
    · have z' : i < A := z1
      refine nm_r (nI_1 i) (hw (N + 1, c11, c12, c13, c14, c15) ⟨hc', ?_, Or.inl ?_⟩)
      · show ∀ j, j < N + 1 → zc_Ext t w a3 a5 a6 a7 a8 a9 j
        intro j hj
        by_cases ej : j = N
        · rw [ej]; exact z3
        · exact p2 j (by omega)
      · show N + 1 = min (i + 1) A
        omega
    · refine nm_r (nI_1 i) (hw (N, c11, c12, c13, c14, c15) ⟨hc', p2, ?_⟩)
      show N = min (i + 1) A ∨ (A = 1 ∧ N = 0 ∧ 0 < i + 1 ∧ ¬ zc_Ext t w a3 a5 a6 a7 a8 a9 0)
      rcases p3 with e | ⟨e0, e, e1, e2⟩
      · by_cases hiA : i < A
        · have eN : N = i := by omega
          have hx : ¬ zc_Ext t w a3 a5 a6 a7 a8 a9 N := fun q => z ⟨hiA, by omega, q⟩
          rcases hA with h1 | h2
          · have e0 : N = 0 := by omega
            rw [e0] at hx
            exact Or.inr ⟨h1, e0, by omega, hx⟩
          · exact absurd (h2 N (by omega)) hx
        · exact Or.inl (by omega)
      · exact Or.inr ⟨e0, e, by omega, e2⟩
end FIND
end
section
/-! ===== the walk: who ends a path ===== -/
/-- trusted: certificate c ends a path (one certificate, w, left out) -/
def zc_Tr (A : Nat) (t w : Int32) (b3 b5 b6 g b8 b9 : Nat → Int32) (c : Nat) : Prop :=
  c ≤ 4 + A ∧ (∀ j, j < c → zc_Ext t w b3 b5 b6 g b8 b9 j) ∧ zc_End t w b3 b5 b6 g b8 b9 c
theorem zc_KTr {A m K c : Nat} {t w : Int32} {b3 b5 b6 g b8 b9 : Nat → Int32} (hc : c < m) (hK4 : K ≤ 4 + A) (hE : ∀ j, j < K → zc_Ext t w b3 b5 b6 g b8 b9 j)
    (hS : K < m → K < 4 + A → ¬ zc_Ext t w b3 b5 b6 g b8 b9 K) : (c ≤ K ∧ zc_End t w b3 b5 b6 g b8 b9 c) ↔ zc_Tr A t w b3 b5 b6 g b8 b9 c := by
  constructor
  · rintro ⟨h1, h2⟩
    exact ⟨by omega, fun j hj => hE j (by omega), h2⟩
  · rintro ⟨h1, h2, h3⟩
    refine ⟨Nat.not_lt.mp fun z => ?_, h3⟩
    exact hS (by omega) (by omega) (h2 K z)
theorem zc_sgE {A c : Nat} (hA0 : 0 < A) (hcA : A = 1 ∨ A ≤ c) (k : Nat) : zc_sg A c k ↔ c = k := by
  cases k with
  | zero =>
    show c < A ↔ c = 0
    omega
  | succ j => exact Iff.rfl
section ASK
variable {f0 f1 f2 f3 f4 f5 : Int32} {a1 a2 a3 a4 a5 a6 a7 a8 a9 a10 a11 a12 a13 a14 a15 a16 a17 : Nat → Int32}
theorem zc_endsWell {post : Int32 → Prop} {m A K c k : Nat} (hn : zc_net m A a1 a2 a3 a4 a10) (hm : m ≤ 12) (hf : zc_flat A a7) (hr : zc_rec A K a7 a11 a12 a13 a14 a15) (hK : K ≤ m) (hc : c < m) (hk : k ≤ K)
    (h1 : zc_sg A c k → zc_End f3 f4 a3 a5 a6 a7 a8 a9 c → post 1) (h0 : ¬ (zc_sg A c k ∧ zc_End f3 f4 a3 a5 a6 a7 a8 a9 c) → post 0) : wpX_endsWell post (f0, f1, f2, f3, f4, f5, a1, a2, a3, a4, a5, a6, a7, a8, a9, a10, a11, a12, a13, a14, a15, a16, a17) (nI c) (zc_px k) := by
  unfold wpX_endsWell
  dsimp only
  rw [zc_i4, nI_clamp (show 5 * c + 4 < 2 ^ 31 by omega)]
  refine zc_isGood (by omega) (fun z1 => br_f (by decide) ?_) (fun z => br_t rfl (h0 (fun q => z q.2.1)))
  refine zc_isSigned hn hm hc (fun j ej => ⟨by omega, (hr j (by omega)).1⟩) (fun z2 => br_f (by decide) ?_) (fun z => br_t rfl (h0 (fun q => z q.1)))
  obtain ⟨q1, q2, q3⟩ := zc_sgO hf z2
  refine zc_isOpen hr hk (by omega) (by omega) (fun z3 => br_f (by decide) ?_) (fun z => br_t rfl (h0 (fun q => z (by rw [q1]; exact q.2.2.1))))
  have eP : zc_P a7 k &&& a7 (5 * c + 4) = zc_P a7 (c + 1) := by
    rw [q2]
    rfl
  refine zc_commonOf hr hk (by omega) ⟨vp_in_nI (by omega) (by decide), ?_⟩
  rw [eP]
  rw [q1] at z3
  exact br_c (fun z => h0 (fun q => q.2.2.2 z)) (fun z4 => h1 z2 ⟨z1, z3, z4⟩)
theorem zc_firstFor {post : Int32 → Prop} {m A K c : Nat} (hn : zc_net m A a1 a2 a3 a4 a10) (hm : m ≤ 12) (hf : zc_flat A a7) (hr : zc_rec A K a7 a11 a12 a13 a14 a15) (hK : K ≤ m) (hc : c < m) (hA0 : 0 < A) (hcA : A = 1 ∨ A ≤ c)
    (h1 : c ≤ K → zc_End f3 f4 a3 a5 a6 a7 a8 a9 c → post (zc_px c)) (h0 : ¬ (c ≤ K ∧ zc_End f3 f4 a3 a5 a6 a7 a8 a9 c) → post (-2)) : wpX_firstFor post (f0, nI K, f2, f3, f4, f5, a1, a2, a3, a4, a5, a6, a7, a8, a9, a10, a11, a12, a13, a14, a15, a16, a17) (nI c) := by
  have hs := zc_sgE hA0 hcA
  unfold wpX_firstFor
  dsimp only
  show wpX_endsWell _ _ (nI c) (zc_px 0)
  refine zc_endsWell hn hm hf hr hK hc (Nat.zero_le _) (fun z1 z2 => br_f (by decide) ?_) (fun z => br_t rfl ?_)
  · have e : c = 0 := (hs 0).mp z1
    subst e
    exact h1 (Nat.zero_le _) z2
  · refine pk_loop (σ := Unit) (fun n i _ => wX_firstFor_13 post (nI c) f0 (nI K) f2 f3 f4 f5 a1 a2 a3 a4 a5 a6 a7 a8 a9 a10 a11 a12 a13 a14 a15 a16 a17 n (nI i)) (fun i _ => ¬ (c ≤ i ∧ zc_End f3 f4 a3 a5 a6 a7 a8 a9 c)) K 0 () (Nat.zero_le _) (fun q => z ⟨(hs 0).mpr (by omega), q.2⟩) ?_ ?_
    · intro n s hI
      exact pk_le K K (fun _ => h0 hI) (fun z => absurd z (by omega))
    · intro n i s hi hI hw
      refine pk_le K i (fun z => absurd z (by omega)) (fun _ => ?_)
      show wpX_endsWell _ _ (nI c) (zc_px (i + 1))
      refine zc_endsWell hn hm hf hr hK hc (by omega) (fun z1 z2 => br_f (by decide) ?_) (fun z => br_t rfl (nm_r (nI_1 i) (hw () (fun q => ?_))))
      · have e : c = i + 1 := (hs (i + 1)).mp z1
        subst e
        exact h1 (by omega) z2
      · by_cases e : c = i + 1
        · exact z ⟨(hs (i + 1)).mpr e, q.2⟩
        · exact hI ⟨by omega, q.2⟩
theorem zc_cert {post : Int32 → Prop} {m c : Nat} (hm : m ≤ 12) (hc : c < m) (h : post 1) : wpX_isCertificate post (nI m, f1, f2, f3, f4, f5, a1, a2, a3, a4, a5, a6, a7, a8, a9, a10, a11, a12, a13, a14, a15, a16, a17) (nI c) := by
  unfold wpX_isCertificate
  dsimp only
  exact br_f (nI_pos (by omega)) (br_f (nI_ge hc (by omega)) h)
theorem zc_time {post : Int32 → Prop} {t : Int32} (h0 : ¬ t < 0) (h1 : ¬ 100 < t) (h : post 1) : wpX_isTime post () t := by
  unfold wpX_isTime
  exact br_f h0 (br_f h1 h)
theorem zc_asked {post : Int32 → Prop} {m c : Nat} {t : Int32} (hm : m ≤ 12) (hc : c < m) (h0 : ¬ t < 0) (h1 : ¬ 100 < t) (h : post 1) : wpX_isAsked post (nI m, f1, f2, f3, f4, f5, a1, a2, a3, a4, a5, a6, a7, a8, a9, a10, a11, a12, a13, a14, a15, a16, a17) (nI c) t := by
  unfold wpX_isAsked
  dsimp only
  exact zc_cert hm hc (br_f (by decide) (zc_time h0 h1 (br_f (by decide) h)))
/-- findStates, then firstFor -/
theorem zc_FF {post : St2 → Prop} {m A : Nat} {t w : Int32} (hn : zc_net m A a1 a2 a3 a4 a10) (hm : m ≤ 12) (hA0 : 0 < A) (hAm : A ≤ m) (hf : zc_flat A a7)
    (hA : A = 1 ∨ ∀ c, c < m → zc_Ext t w a3 a5 a6 a7 a8 a9 c)
    (H : ∀ (K : Nat) (r : Int32) (b11 b12 b13 b14 b15 b16 : Nat → Int32), K ≤ m → K ≤ 4 + A → zc_rec A K a7 b11 b12 b13 b14 b15 →
      (∀ c, c < m → ((c ≤ K ∧ zc_End t w a3 a5 a6 a7 a8 a9 c) ↔ zc_Tr A t w a3 a5 a6 a7 a8 a9 c)) → post (nI m, nI K, r, t, w, f5, a1, a2, a3, a4, a5, a6, a7, a8, a9, a10, b11, b12, b13, b14, b15, b16, a17)) :
    wpX_findStates post (nI m, f1, f2, f3, f4, f5, a1, a2, a3, a4, a5, a6, a7, a8, a9, a10, a11, a12, a13, a14, a15, a16, a17) t w :=
  zc_find hn hm hA0 hAm hf hA (fun K r b11 b12 b13 b14 b15 b16 k1 k2 k3 k4 k5 => H K r b11 b12 b13 b14 b15 b16 k1 k2 k5 (fun c hc => zc_KTr hc k2 k3 k4))
end ASK
/-- whatever the states and the path are -/
def zc_all (m : Nat) (a1 a2 a3 a4 a5 a6 a7 a8 a9 a10 : Nat → Int32) (Q : St2 → Prop) : Prop :=
  ∀ (f1 f2 f3 f4 f5 : Int32) (a11 a12 a13 a14 a15 a16 a17 : Nat → Int32), Q (nI m, f1, f2, f3, f4, f5, a1, a2, a3, a4, a5, a6, a7, a8, a9, a10, a11, a12, a13, a14, a15, a16, a17)
section ASK2
variable {f0 f1 f2 f3 f4 f5 : Int32} {a1 a2 a3 a4 a5 a6 a7 a8 a9 a10 a11 a12 a13 a14 a15 a16 a17 : Nat → Int32}
theorem zc_trusted {post : Int32 → St2 → Prop} {m c : Nat} {t : Int32} (hn : zc_net m 1 a1 a2 a3 a4 a10) (hm : m ≤ 12) (hc : c < m) (ht0 : ¬ t < 0) (ht1 : ¬ 100 < t)
    (H : ∀ r : Int32, (zc_Tr 1 t (-1) a3 a5 a6 a7 a8 a9 c → r = 1) → (¬ zc_Tr 1 t (-1) a3 a5 a6 a7 a8 a9 c → r = 0) → zc_all m a1 a2 a3 a4 a5 a6 a7 a8 a9 a10 (post r)) :
    wpX_trusted post (nI m, f1, f2, f3, f4, f5, a1, a2, a3, a4, a5, a6, a7, a8, a9, a10, a11, a12, a13, a14, a15, a16, a17) (nI c) t := by
  unfold wpX_trusted
  dsimp only
  refine zc_asked hm hc ht0 ht1 (br_f (by decide) ?_)
  refine zc_FF hn hm (by decide) (by omega) (zc_flat1 _) (Or.inl rfl) (fun K r b11 b12 b13 b14 b15 b16 k1 k2 k3 k4 => ?_)
  refine zc_firstFor hn hm (zc_flat1 _) k3 k1 hc (by decide) (Or.inl rfl) (fun z1 z2 => br_f (zc_px_lt (by omega)) ?_) (fun z => br_t rfl ?_)
  · have T := (k4 c hc).mp ⟨z1, z2⟩
    exact H 1 (fun _ => rfl) (fun q => absurd T q) _ _ _ _ _ _ _ _ _ _ _ _
  · have T : ¬ zc_Tr 1 t (-1) a3 a5 a6 a7 a8 a9 c := fun q => z ((k4 c hc).mpr q)
    exact H 0 (fun q => absurd q T) (fun _ => rfl) _ _ _ _ _ _ _ _ _ _ _ _
end ASK2
end
section
/-! ===== the walk: findPath, length, step ===== -/
def zc_pd (A : Nat) : Nat → Int32
  | 0 => -1
  | d + 1 => nI (d + A - 1)
theorem zc_pd_bf {A d : Nat} (hA0 : 0 < A) : zc_bf A (d + A - 1) = zc_pd A d := by
  unfold zc_bf
  cases d with
  | zero => rw [if_pos (show 0 + A - 1 < A by omega)]; rfl
  | succ e =>
    rw [if_neg (show ¬ e + 1 + A - 1 < A by omega)]
    show nI _ = nI _
    rw [show e + 1 + A - 1 - 1 = e + A - 1 by omega]
theorem zc_pd_px {A c : Nat} (hA0 : 0 < A) (hcA : A = 1 ∨ A ≤ c) : zc_px c = zc_pd A (c + 1 - A) := by
  by_cases h : A ≤ c
  · obtain ⟨d, rfl⟩ : ∃ d, c = d + A := ⟨c - A, by omega⟩
    rw [show d + A + 1 - A = d + 1 by omega]
    obtain ⟨B, rfl⟩ : ∃ B, A = B + 1 := ⟨A - 1, by omega⟩
    show nI _ = nI _
    rw [show d + (B + 1) - 1 = d + B by omega]
    rfl
  · have e1 : A = 1 := by omega
    have e2 : c = 0 := by omega
    subst e1 e2
    rfl
section PATH
variable {f0 f1 f2 f3 f4 f5 : Int32} {a1 a2 a3 a4 a5 a6 a7 a8 a9 a10 a11 a12 a13 a14 a15 a16 a17 : Nat → Int32}
theorem zc_p62 {post : Int32 → St2 → Prop} {A K d0 : Nat} {b17 : Nat → Int32} (hA0 : 0 < A) (hA2 : A ≤ 2) (hr : zc_rec A K a7 a11 a12 a13 a14 a15) (hK : K ≤ 12) (hd : d0 + A ≤ K + 1) (hd5 : d0 ≤ 5) (hb : b17 d0 = nI (d0 + A - 1))
    (H : ∀ b17 : Nat → Int32, (∀ j, j ≤ d0 → b17 j = nI (j + A - 1)) → post 1 (f0, f1, f2, f3, f4, f5, a1, a2, a3, a4, a5, a6, a7, a8, a9, a10, a11, a12, a13, a14, a15, a16, b17)) :
    ∃ n, wX_findPath_62 post f0 f1 f2 f3 f4 f5 n (nI d0) (zc_pd A d0) a1 a2 a3 a4 a5 a6 a7 a8 a9 a10 a11 a12 a13 a14 a15 a16 b17 := by
  refine ⟨d0 + 1, pk_loopD (fun n i s => wX_findPath_62 post f0 f1 f2 f3 f4 f5 n (nI i) (zc_pd A i) a1 a2 a3 a4 a5 a6 a7 a8 a9 a10 a11 a12 a13 a14 a15 a16 s) (fun i s => i ≤ d0 ∧ ∀ j, i ≤ j → j ≤ d0 → s j = nI (j + A - 1)) ?_ ?_ d0 b17 ⟨Nat.le_refl _, fun j h1 h2 => ?_⟩⟩
  · rintro n s ⟨_, h⟩
    exact br_t (show (-1 : Int32) < 0 by decide) (H s (fun j hj => h j (Nat.zero_le _) hj))
  · rintro n i s ⟨hi, h⟩ hw
    obtain ⟨r1, r2, r3, r4, r5⟩ := hr (i + A - 1) (by omega)
    have hin : vp_in (nI (i + A - 1)) 1024 := vp_in_nI (by omega) (by decide)
    unfold wX_findPath_62
    rw [show zc_pd A (i + 1) = nI (i + A - 1) from rfl]
    refine br_f (nI_pos (by omega)) (nm_r (pk_m1 i) ?_)
    rw [nI_clamp (show i + A - 1 < 2 ^ 31 by omega), nI_clamp (show i < 2 ^ 31 by omega), r1, r5]
    refine ⟨hin, vp_in_nI (by omega) (by decide), nm_e ⟨hin, nm_r (zc_pd_bf hA0) (hw _ ⟨by omega, fun j h1 h2 => ?_⟩)⟩⟩
    by_cases e : j = i
    · rw [e, pk_us]
    · rw [pk_un e]
      exact h j (by omega) h2
  · have e : j = d0 := by omega
    rw [e]
    exact hb
theorem zc_p21 {post : Int32 → St2 → Prop} {A K c d0 : Nat} (hA0 : 0 < A) (hA2 : A ≤ 2) (hr : zc_rec A K a7 a11 a12 a13 a14 a15) (hK : K ≤ 12) (hd : d0 + A ≤ K + 1) (hd5 : d0 ≤ 5) (hc : c = d0 + A - 1) (hx : zc_px c = zc_pd A d0)
    (H : ∀ b17 : Nat → Int32, (∀ j, j ≤ d0 → b17 j = nI (j + A - 1)) → post 1 (f0, f1, f2, f3, f4, nI (d0 + 1), a1, a2, a3, a4, a5, a6, a7, a8, a9, a10, a11, a12, a13, a14, a15, a16, b17)) :
    ∃ n, wX_findPath_21 post (nI c) (zc_px c) f0 f1 f2 f3 f4 a1 a2 a3 a4 a5 a6 a7 a8 a9 a10 a11 a12 a13 a14 a15 a16 a17 n (zc_px c) 1 := by
  rw [hx]
  have key : wX_findPath_21 post (nI c) (zc_pd A d0) f0 f1 f2 f3 f4 a1 a2 a3 a4 a5 a6 a7 a8 a9 a10 a11 a12 a13 a14 a15 a16 a17 (d0 + 1) (zc_pd A d0) (nI (d0 + 1 - d0)) := by
    refine pk_loopD (σ := Unit) (fun n i _ => wX_findPath_21 post (nI c) (zc_pd A d0) f0 f1 f2 f3 f4 a1 a2 a3 a4 a5 a6 a7 a8 a9 a10 a11 a12 a13 a14 a15 a16 a17 n (zc_pd A i) (nI (d0 + 1 - i))) (fun i _ => i ≤ d0) ?_ ?_ d0 () (Nat.le_refl _)
    · intro n s _
      refine br_t (show (-1 : Int32) < 0 by decide) (nm_r (show nI (d0 + 1 - 0) - 1 = nI d0 from nI_pred d0) ⟨vp_in_nI (by omega) (by decide), nm_e ?_⟩)
      rw [nI_clamp (show d0 < 2 ^ 31 by omega)]
      refine zc_p62 hA0 hA2 hr hK hd hd5 (by rw [pk_us, hc]) H
    · intro n i s hi hw
      have hi' : i + 1 ≤ d0 := hi
      obtain ⟨r1, r2, r3, r4, r5⟩ := hr (i + A - 1) (by omega)
      have hin : vp_in (nI (i + A - 1)) 1024 := vp_in_nI (by omega) (by decide)
      unfold wX_findPath_21
      rw [show zc_pd A (i + 1) = nI (i + A - 1) from rfl]
      refine br_f (nI_pos (by omega)) (nm_r (nI_1 _) ⟨hin, ?_⟩)
      rw [nI_clamp (show i + A - 1 < 2 ^ 31 by omega), r5, show d0 + 1 - (i + 1) + 1 = d0 + 1 - i by omega]
      exact nm_r (zc_pd_bf hA0) (hw () (by omega))
  rw [show d0 + 1 - d0 = 1 by omega] at key
  exact ⟨_, key⟩
theorem zc_findPath {post : Int32 → St2 → Prop} {m A K c : Nat} (hn : zc_net m A a1 a2 a3 a4 a10) (hm : m ≤ 12) (hf : zc_flat A a7) (hr : zc_rec A K a7 a11 a12 a13 a14 a15) (hK : K ≤ m) (hK4 : K ≤ 4 + A) (hc : c < m) (hA0 : 0 < A) (hA2 : A ≤ 2) (hcA : A = 1 ∨ A ≤ c)
    (h1 : c ≤ K → zc_End f3 f4 a3 a5 a6 a7 a8 a9 c → ∀ b17 : Nat → Int32, (∀ j, j ≤ c + 1 - A → b17 j = nI (j + A - 1)) → post 1 (f0, nI K, f2, f3, f4, nI (c + 1 - A + 1), a1, a2, a3, a4, a5, a6, a7, a8, a9, a10, a11, a12, a13, a14, a15, a16, b17))
    (h0 : ¬ (c ≤ K ∧ zc_End f3 f4 a3 a5 a6 a7 a8 a9 c) → post 0 (f0, nI K, f2, f3, f4, f5, a1, a2, a3, a4, a5, a6, a7, a8, a9, a10, a11, a12, a13, a14, a15, a16, a17)) : wpX_findPath post (f0, nI K, f2, f3, f4, f5, a1, a2, a3, a4, a5, a6, a7, a8, a9, a10, a11, a12, a13, a14, a15, a16, a17) (nI c) := by
  unfold wpX_findPath
  dsimp only
  refine zc_firstFor hn hm hf hr hK hc hA0 hcA (fun z1 z2 => br_f (zc_px_lt (by omega)) ?_) (fun z => br_t rfl (h0 z))
  exact zc_p21 (d0 := c + 1 - A) hA0 hA2 hr (by omega) (by omega) (by omega) (by omega) (zc_pd_px hA0 hcA) (h1 z1 z2)
theorem zc_length {post : Int32 → St2 → Prop} {m A c : Nat} {t : Int32} (hn : zc_net m A a1 a2 a3 a4 a10) (hm : m ≤ 12) (hf : zc_flat A a7) (hAm : A ≤ m) (hA : A = 1 ∨ ∀ c, c < m → zc_Ext t (-1) a3 a5 a6 a7 a8 a9 c) (hc : c < m) (hA0 : 0 < A) (hA2 : A ≤ 2) (hcA : A = 1 ∨ A ≤ c) (ht0 : ¬ t < 0) (ht1 : ¬ 100 < t)
    (h1 : zc_Tr A t (-1) a3 a5 a6 a7 a8 a9 c → zc_all m a1 a2 a3 a4 a5 a6 a7 a8 a9 a10 (post (nI (c + 1 - A + 1))))
    (h0 : ¬ zc_Tr A t (-1) a3 a5 a6 a7 a8 a9 c → zc_all m a1 a2 a3 a4 a5 a6 a7 a8 a9 a10 (post (-2))) :
    wpX_length post (nI m, f1, f2, f3, f4, f5, a1, a2, a3, a4, a5, a6, a7, a8, a9, a10, a11, a12, a13, a14, a15, a16, a17) (nI c) t := by
  unfold wpX_length
  dsimp only
  refine zc_asked hm hc ht0 ht1 (br_f (by decide) ?_)
  refine zc_FF hn hm hA0 hAm hf hA (fun K r b11 b12 b13 b14 b15 b16 k1 k2 k3 k4 => ?_)
  refine zc_findPath hn hm hf k3 k1 k2 hc hA0 hA2 hcA (fun z1 z2 b17 hb => br_f (by decide) ?_) (fun z => br_t rfl ?_)
  · exact h1 ((k4 c hc).mp ⟨z1, z2⟩) _ _ _ _ _ _ _ _ _ _ _ _
  · exact h0 (fun q => z ((k4 c hc).mpr q)) _ _ _ _ _ _ _ _ _ _ _ _
theorem zc_stepQ {post : Int32 → St2 → Prop} {m A c i : Nat} {t : Int32} (hn : zc_net m A a1 a2 a3 a4 a10) (hm : m ≤ 12) (hf : zc_flat A a7) (hAm : A ≤ m) (hA : A = 1 ∨ ∀ c, c < m → zc_Ext t (-1) a3 a5 a6 a7 a8 a9 c) (hc : c < m) (hA0 : 0 < A) (hA2 : A ≤ 2) (hcA : A = 1 ∨ A ≤ c) (ht0 : ¬ t < 0) (ht1 : ¬ 100 < t) (hi : i < 100)
    (h1 : zc_Tr A t (-1) a3 a5 a6 a7 a8 a9 c → i ≤ c + 1 - A → zc_all m a1 a2 a3 a4 a5 a6 a7 a8 a9 a10 (post (nI (i + A - 1))))
    (h2 : zc_Tr A t (-1) a3 a5 a6 a7 a8 a9 c → c + 1 - A < i → zc_all m a1 a2 a3 a4 a5 a6 a7 a8 a9 a10 (post (-2)))
    (h0 : ¬ zc_Tr A t (-1) a3 a5 a6 a7 a8 a9 c → zc_all m a1 a2 a3 a4 a5 a6 a7 a8 a9 a10 (post (-2))) :
    wpX_step post (nI m, f1, f2, f3, f4, f5, a1, a2, a3, a4, a5, a6, a7, a8, a9, a10, a11, a12, a13, a14, a15, a16, a17) (nI c) t (nI i) := by
  unfold wpX_step
  dsimp only
  refine zc_asked hm hc ht0 ht1 (br_f (by decide) ?_)
  refine zc_FF hn hm hA0 hAm hf hA (fun K r b11 b12 b13 b14 b15 b16 k1 k2 k3 k4 => ?_)
  refine zc_findPath hn hm hf k3 k1 k2 hc hA0 hA2 hcA (fun z1 z2 b17 hb => br_f (by decide) ?_) (fun z => br_t rfl ?_)
  · have T := (k4 c hc).mp ⟨z1, z2⟩
    refine br_f (nI_pos (by omega)) (pk_le (c + 1 - A + 1) i (fun z => h2 T (by omega) _ _ _ _ _ _ _ _ _ _ _ _) (fun z => ⟨vp_in_nI (by omega) (by decide), ?_⟩))
    dsimp only
    rw [nI_clamp (show i < 2 ^ 31 by omega), hb i (by omega)]
    exact h1 T (by omega) _ _ _ _ _ _ _ _ _ _ _ _
  · exact h0 (fun q => z ((k4 c hc).mpr q)) _ _ _ _ _ _ _ _ _ _ _ _
end PATH
end
section
/-! ===== the walk: trustedSet, ones, count, depending, narrow ===== -/
theorem zc_or0 (x : Int32) : x ||| 0 = x := by
  apply Int32.toBitVec_inj.mp
  show x.toBitVec ||| (0 : Int32).toBitVec = x.toBitVec
  have e0 : (0 : Int32).toBitVec = 0#32 := by decide
  rw [e0]
  simp
theorem zc_0or (x : Int32) : 0 ||| x = x := by
  apply Int32.toBitVec_inj.mp
  show (0 : Int32).toBitVec ||| x.toBitVec = x.toBitVec
  have e0 : (0 : Int32).toBitVec = 0#32 := by decide
  rw [e0]
  simp
theorem zc_orb : ∀ i, i < 12 → nI (2 ^ i - 1) ||| ((1 : Int32) <<< (nI i &&& 31)) = nI (2 ^ (i + 1) - 1) := by decide +kernel
def zc_on (x : Int32) : Nat → Int32
  | 0 => 0
  | i + 1 => zc_on x i + ((x >>> (nI i &&& 31)) &&& 1)
theorem zc_on1 : ∀ q, q < 8 → zc_on (nI (2 ^ q - 1)) 12 = nI q := by decide +kernel
theorem zc_on2 : ∀ q, q < 8 → ∀ p, p < 8 → p ≤ q → zc_on (nI (2 ^ q - 1) &&& (nI (2 ^ p - 1) ^^^ (-1))) 12 = nI (q - p) := by decide +kernel
theorem zc_ones {post : Int32 → Prop} {x : Int32} (h : post (zc_on x 12)) : wpX_ones post () x := by
  unfold wpX_ones
  refine loop_0 (σ := Unit) (fun n i _ => wX_ones_4 post x n (zc_on x i) (nI i)) (fun _ _ => True) 12 () trivial ?_ ?_
  · intro n s _
    exact pk_le 12 12 (fun _ => h) (fun z => absurd z (by omega))
  · intro n i s hi _ hw
    exact pk_le 12 i (fun z => absurd z (by omega)) (fun _ => nm_e (nm_r (nI_1 i) (hw () trivial)))
section SETS
variable {f0 f1 f2 f3 f4 f5 : Int32} {a1 a2 a3 a4 a5 a6 a7 a8 a9 a10 a11 a12 a13 a14 a15 a16 a17 : Nat → Int32}
theorem zc_tset {post : Int32 → Prop} {m K q : Nat} (hn : zc_net m 1 a1 a2 a3 a4 a10) (hm : m ≤ 7) (hr : zc_rec 1 K a7 a11 a12 a13 a14 a15) (hK : K ≤ m) (hq : ∀ c, c < m → ((c ≤ K ∧ zc_End f3 f4 a3 a5 a6 a7 a8 a9 c) ↔ c < q)) (hqm : q ≤ m)
    (h : post (nI (2 ^ q - 1))) : wpX_trustedSet post (nI m, nI K, f2, f3, f4, f5, a1, a2, a3, a4, a5, a6, a7, a8, a9, a10, a11, a12, a13, a14, a15, a16, a17) := by
  unfold wpX_trustedSet
  dsimp only
  refine loop_0 (σ := Unit) (fun n i _ => wX_trustedSet_4 post (nI m) (nI K) f2 f3 f4 f5 a1 a2 a3 a4 a5 a6 a7 a8 a9 a10 a11 a12 a13 a14 a15 a16 a17 n (nI (2 ^ (min i q) - 1)) (nI i)) (fun _ _ => True) m () trivial ?_ ?_
  · intro n s _
    refine pk_le m m (fun _ => ?_) (fun z => absurd z (by omega))
    rw [show min m q = q by omega]
    exact h
  · intro n i s hi _ hw
    have hw' := hw () trivial
    refine pk_le m i (fun z => absurd z (by omega)) (fun _ => ?_)
    refine zc_firstFor hn (by omega) (zc_flat1 _) hr hK hi (by decide) (Or.inl rfl) (fun z1 z2 => br_f (zc_px_lt (by omega)) (nm_r (e' := nI (2 ^ (min (i + 1) q) - 1)) ?_ (nm_r (nI_1 i) hw'))) (fun z => br_t rfl (nm_r (e' := nI (2 ^ (min (i + 1) q) - 1)) ?_ (nm_r (nI_1 i) hw')))
    · have hiq : i < q := (hq i hi).mp ⟨z1, z2⟩
      rw [show min i q = i by omega, show min (i + 1) q = i + 1 by omega]
      exact zc_orb i (by omega)
    · have hiq : ¬ i < q := fun k => z ((hq i hi).mpr k)
      rw [zc_or0, show min i q = q by omega, show min (i + 1) q = q by omega]
theorem zc_count {post : Int32 → St2 → Prop} {m q : Nat} {t : Int32} (hn : zc_net m 1 a1 a2 a3 a4 a10) (hm0 : 0 < m) (hm : m ≤ 7) (ht0 : ¬ t < 0) (ht1 : ¬ 100 < t) (hq : ∀ c, c < m → (zc_Tr 1 t (-1) a3 a5 a6 a7 a8 a9 c ↔ c < q)) (hqm : q ≤ m)
    (H : zc_all m a1 a2 a3 a4 a5 a6 a7 a8 a9 a10 (post (nI q))) : wpX_count post (nI m, f1, f2, f3, f4, f5, a1, a2, a3, a4, a5, a6, a7, a8, a9, a10, a11, a12, a13, a14, a15, a16, a17) t := by
  unfold wpX_count
  dsimp only
  refine zc_time ht0 ht1 (br_f (by decide) ?_)
  refine zc_FF hn (by omega) (by decide) (by omega) (zc_flat1 _) (Or.inl rfl) (fun K r b11 b12 b13 b14 b15 b16 k1 k2 k3 k4 => ?_)
  refine zc_tset (q := q) hn hm k3 k1 (fun c hc => (k4 c hc).trans (hq c hc)) hqm (zc_ones ?_)
  rw [zc_on1 q (by omega)]
  exact H _ _ _ _ _ _ _ _ _ _ _ _
theorem zc_depending {post : Int32 → St2 → Prop} {m q p i : Nat} {t : Int32} (hn : zc_net m 1 a1 a2 a3 a4 a10) (hm : m ≤ 7) (hi : i < m) (ht0 : ¬ t < 0) (ht1 : ¬ 100 < t) (hq : ∀ c, c < m → (zc_Tr 1 t (-1) a3 a5 a6 a7 a8 a9 c ↔ c < q)) (hqm : q ≤ m)
    (hp : ∀ c, c < m → (zc_Tr 1 t (nI i) a3 a5 a6 a7 a8 a9 c ↔ c < p)) (hpq : p ≤ q)
    (H : zc_all m a1 a2 a3 a4 a5 a6 a7 a8 a9 a10 (post (nI (q - p)))) : wpX_depending post (nI m, f1, f2, f3, f4, f5, a1, a2, a3, a4, a5, a6, a7, a8, a9, a10, a11, a12, a13, a14, a15, a16, a17) (nI i) t := by
  unfold wpX_depending
  dsimp only
  refine zc_asked (by omega) hi ht0 ht1 (br_f (by decide) ?_)
  refine zc_FF hn (by omega) (by decide) (by omega) (zc_flat1 _) (Or.inl rfl) (fun K r b11 b12 b13 b14 b15 b16 k1 k2 k3 k4 => ?_)
  refine zc_tset (q := q) hn hm k3 k1 (fun c hc => (k4 c hc).trans (hq c hc)) hqm ?_
  refine zc_FF hn (by omega) (by decide) (by omega) (zc_flat1 _) (Or.inl rfl) (fun K' r' c11 c12 c13 c14 c15 c16 j1 j2 j3 j4 => ?_)
  refine zc_tset (q := p) hn hm j3 j1 (fun c hc => (j4 c hc).trans (hp c hc)) (by omega) (zc_ones ?_)
  rw [zc_on2 q (by omega) p (by omega) hpq]
  exact H _ _ _ _ _ _ _ _ _ _ _ _
theorem zc_narrow {post : Int32 → St2 → Prop} {m c : Nat} {t : Int32} (hn : zc_net m 1 a1 a2 a3 a4 a10) (hm : m ≤ 7) (hc : c < m) (ht0 : ¬ t < 0) (ht1 : ¬ 100 < t)
    (h0 : ¬ zc_Tr 1 t (-1) a3 a5 a6 a7 a8 a9 c → zc_all m a1 a2 a3 a4 a5 a6 a7 a8 a9 a10 (post (-2)))
    (h1 : zc_Tr 1 t (-1) a3 a5 a6 a7 a8 a9 c → (m = 1 ∧ zc_all m a1 a2 a3 a4 a5 a6 a7 a8 a9 a10 (post (-2))) ∨ (0 < c ∧ ¬ zc_Tr 1 t 0 a3 a5 a6 a7 a8 a9 c ∧ zc_all m a1 a2 a3 a4 a5 a6 a7 a8 a9 a10 (post 0))) :
    wpX_narrow post (nI m, f1, f2, f3, f4, f5, a1, a2, a3, a4, a5, a6, a7, a8, a9, a10, a11, a12, a13, a14, a15, a16, a17) (nI c) t := by
  unfold wpX_narrow
  dsimp only
  refine zc_asked (by omega) hc ht0 ht1 (br_f (by decide) ?_)
  refine zc_FF hn (by omega) (by decide) (by omega) (zc_flat1 _) (Or.inl rfl) (fun K r b11 b12 b13 b14 b15 b16 k1 k2 k3 k4 => ?_)
  refine zc_firstFor hn (by omega) (zc_flat1 _) k3 k1 hc (by decide) (Or.inl rfl) (fun z1 z2 => br_f (zc_px_lt (by omega)) ?_) (fun z => br_t rfl (h0 (fun q => z ((k4 c hc).mpr q)) _ _ _ _ _ _ _ _ _ _ _ _))
  rcases h1 ((k4 c hc).mp ⟨z1, z2⟩) with ⟨e, hp⟩ | ⟨e, T, hp⟩
  · have ec : c = 0 := by omega
    subst e ec
    refine ⟨2, br_f (show ¬ nI 1 ≤ 0 by decide) (br_t rfl (nm_r (nI_1 0) (br_t (show nI 1 ≤ nI 1 by decide) ?_)))⟩
    exact hp _ _ _ _ _ _ _ _ _ _ _ _
  · refine ⟨1, br_f (nI_ge (a := 0) (b := m) (by omega) (by omega)) (br_f (fun z => absurd ((nI_eq (a := 0) (b := c) (by omega) (by omega)).mp z) (by omega)) ?_)⟩
    refine zc_FF hn (by omega) (by decide) (by omega) (zc_flat1 _) (Or.inl rfl) (fun K' r' c11 c12 c13 c14 c15 c16 j1 j2 j3 j4 => ?_)
    refine zc_firstFor hn (by omega) (zc_flat1 _) j3 j1 hc (by decide) (Or.inl rfl) (fun z1 z2 => absurd ((j4 c hc).mp ⟨z1, z2⟩) T) (fun z => br_t rfl ?_)
    exact hp _ _ _ _ _ _ _ _ _ _ _ _
end SETS
end
section
/-! ===== the walk: policies, keysOf, until ===== -/
section MORE
variable {f0 f1 f2 f3 f4 f5 : Int32} {a1 a2 a3 a4 a5 a6 a7 a8 a9 a10 a11 a12 a13 a14 a15 a16 a17 : Nat → Int32}
theorem zc_polFor {post : Int32 → Prop} {m K c : Nat} (hn : zc_net m 1 a1 a2 a3 a4 a10) (hm : m ≤ 12) (hr : zc_rec 1 K a7 a11 a12 a13 a14 a15) (hK : K ≤ m) (hc : c < m) (h15 : 15 &&& a7 (5 * c + 4) = a7 (5 * c + 4))
    (h1 : c ≤ K → zc_End f3 f4 a3 a5 a6 a7 a8 a9 c → post (zc_P a7 (c + 1))) (h0 : ¬ (c ≤ K ∧ zc_End f3 f4 a3 a5 a6 a7 a8 a9 c) → post 0) : wpX_policiesFor post (f0, nI K, f2, f3, f4, f5, a1, a2, a3, a4, a5, a6, a7, a8, a9, a10, a11, a12, a13, a14, a15, a16, a17) (nI c) := by
  have hs := zc_sgE (A := 1) (c := c) (by decide) (Or.inl rfl)
  have hin : vp_in (nI (5 * c + 4)) 60 := vp_in_nI (by omega) (by decide)
  have loop : ∀ v : Int32, (c ≤ 0 ∧ zc_End f3 f4 a3 a5 a6 a7 a8 a9 c → v = zc_P a7 (c + 1)) → (¬ (c ≤ 0 ∧ zc_End f3 f4 a3 a5 a6 a7 a8 a9 c) → v = 0) → ∃ n, wX_policiesFor_26 post (nI c) f0 (nI K) f2 f3 f4 f5 a1 a2 a3 a4 a5 a6 a7 a8 a9 a10 a11 a12 a13 a14 a15 a16 a17 n v 0 := by
    intro v hv1 hv0
    refine loop_0 (fun n i s => wX_policiesFor_26 post (nI c) f0 (nI K) f2 f3 f4 f5 a1 a2 a3 a4 a5 a6 a7 a8 a9 a10 a11 a12 a13 a14 a15 a16 a17 n s (nI i)) (fun i s => (c ≤ i ∧ zc_End f3 f4 a3 a5 a6 a7 a8 a9 c → s = zc_P a7 (c + 1)) ∧ (¬ (c ≤ i ∧ zc_End f3 f4 a3 a5 a6 a7 a8 a9 c) → s = 0)) K v ⟨hv1, hv0⟩ ?_ ?_
    · rintro n s ⟨i1, i0⟩
      refine pk_le K K (fun _ => ?_) (fun z => absurd z (by omega))
      by_cases z : c ≤ K ∧ zc_End f3 f4 a3 a5 a6 a7 a8 a9 c
      · rw [i1 z]; exact h1 z.1 z.2
      · rw [i0 z]; exact h0 z
    · rintro n i s hi ⟨i1, i0⟩ hw
      refine pk_le K i (fun z => absurd z (by omega)) (fun _ => ?_)
      show wpX_endsWell _ _ (nI c) (zc_px (i + 1))
      refine zc_endsWell hn hm (zc_flat1 _) hr hK hc (by omega) (fun z1 z2 => br_f (by decide) ⟨vp_in_nI (by omega) (by decide), ?_⟩) (fun z => br_t rfl (nm_r (zc_or0 s) (nm_r (nI_1 i) (hw s ⟨fun q => ?_, fun q => ?_⟩))))
      · have e : c = i + 1 := (hs (i + 1)).mp z1
        have es : s = 0 := i0 (fun q => absurd q.1 (by omega))
        rw [zc_i4, nI_clamp (show 5 * c + 4 < 2 ^ 31 by omega), nI_clamp (show i < 2 ^ 31 by omega), (hr i hi).2.2.2.1, es, zc_0or, ← e]
        refine ⟨hin, nm_e (nm_r (nI_1 i) (hw _ ⟨fun _ => rfl, fun q => absurd ⟨by omega, z2⟩ q⟩))⟩
      · by_cases e : c = i + 1
        · exact absurd ⟨(hs (i + 1)).mpr e, q.2⟩ z
        · exact i1 ⟨by omega, q.2⟩
      · exact i0 (fun k => q ⟨by omega, k.2⟩)
  unfold wpX_policiesFor
  dsimp only
  rw [zc_i4, nI_clamp (show 5 * c + 4 < 2 ^ 31 by omega)]
  show wpX_endsWell _ _ (nI c) (zc_px 0)
  refine zc_endsWell hn hm (zc_flat1 _) hr hK hc (Nat.zero_le _) (fun z1 z2 => br_f (by decide) ⟨hin, nm_e ?_⟩) (fun z => br_t rfl ?_)
  · have e : c = 0 := (hs 0).mp z1
    refine loop _ (fun _ => ?_) (fun q => absurd ⟨by omega, z2⟩ q)
    rw [← h15, e]
    rfl
  · exact loop 0 (fun q => absurd ⟨(hs 0).mpr (by omega), q.2⟩ z) (fun _ => rfl)
theorem zc_policies {post : Int32 → St2 → Prop} {m c : Nat} {t : Int32} (hn : zc_net m 1 a1 a2 a3 a4 a10) (hm : m ≤ 12) (hc : c < m) (ht0 : ¬ t < 0) (ht1 : ¬ 100 < t) (h15 : 15 &&& a7 (5 * c + 4) = a7 (5 * c + 4))
    (H : ∀ v : Int32, (zc_Tr 1 t (-1) a3 a5 a6 a7 a8 a9 c → v = zc_P a7 (c + 1)) → (¬ zc_Tr 1 t (-1) a3 a5 a6 a7 a8 a9 c → v = 0) → zc_all m a1 a2 a3 a4 a5 a6 a7 a8 a9 a10 (post v)) :
    wpX_policies post (nI m, f1, f2, f3, f4, f5, a1, a2, a3, a4, a5, a6, a7, a8, a9, a10, a11, a12, a13, a14, a15, a16, a17) (nI c) t := by
  unfold wpX_policies
  dsimp only
  refine zc_asked hm hc ht0 ht1 (br_f (by decide) ?_)
  refine zc_FF hn hm (by decide) (by omega) (zc_flat1 _) (Or.inl rfl) (fun K r b11 b12 b13 b14 b15 b16 k1 k2 k3 k4 => ?_)
  refine zc_polFor hn hm k3 k1 hc h15 (fun z1 z2 => ?_) (fun z => ?_)
  · have T := (k4 c hc).mp ⟨z1, z2⟩
    exact H _ (fun _ => rfl) (fun q => absurd T q) _ _ _ _ _ _ _ _ _ _ _ _
  · have T : ¬ zc_Tr 1 t (-1) a3 a5 a6 a7 a8 a9 c := fun q => z ((k4 c hc).mpr q)
    exact H 0 (fun q => absurd q T) (fun _ => rfl) _ _ _ _ _ _ _ _ _ _ _ _
theorem zc_keysOf {post : Int32 → St2 → Prop} {m c p : Nat} {x t u : Int32} (hn : zc_net m 1 a1 a2 a3 a4 a10) (hm : m ≤ 12) (hc : c < m) (hp : p < 8) (hx : x = nI p) (ht0 : ¬ t < 0) (ht1 : ¬ 100 < t) (hu0 : ¬ u < 0) (hu1 : u ≤ 3) (h15 : 15 &&& a7 (5 * c + 4) = a7 (5 * c + 4))
    (hx1 : a3 c = x) (hx0 : ∀ j, j < m → j ≠ c → ¬ a3 j = x)
    (H : ∀ v : Int32, (zc_Tr 1 t (-1) a3 a5 a6 a7 a8 a9 c → v = zc_P a7 (c + 1)) → (¬ zc_Tr 1 t (-1) a3 a5 a6 a7 a8 a9 c → v = 0) →
      ((v >>> (u &&& 31)) &&& 1 = 1 → zc_all m a1 a2 a3 a4 a5 a6 a7 a8 a9 a10 (post ((1 : Int32) <<< (a4 c &&& 31)))) ∧ (¬ (v >>> (u &&& 31)) &&& 1 = 1 → zc_all m a1 a2 a3 a4 a5 a6 a7 a8 a9 a10 (post 0))) :
    wpX_keysOf post (nI m, f1, f2, f3, f4, f5, a1, a2, a3, a4, a5, a6, a7, a8, a9, a10, a11, a12, a13, a14, a15, a16, a17) x t u := by
  unfold wpX_keysOf
  dsimp only
  refine br_f (by rw [hx]; exact nI_pos (by omega)) (br_f (by rw [hx]; exact nI_ge (b := 8) hp (by decide)) (zc_time ht0 ht1 (br_f (by decide) (br_f hu0 (br_t hu1 ?_)))))
  refine zc_FF hn hm (by decide) (by omega) (zc_flat1 _) (Or.inl rfl) (fun K r b11 b12 b13 b14 b15 b16 k1 k2 k3 k4 => ?_)
  -- behind c: what was found stays
  have tail : ∀ y : Int32, post y (nI m, nI K, r, t, -1, f5, a1, a2, a3, a4, a5, a6, a7, a8, a9, a10, b11, b12, b13, b14, b15, b16, a17) → ∀ n, m < n → ∀ i, c < i → i ≤ m → wX_keysOf_40 post x u (nI m) (nI K) r t (-1) f5 a1 a2 a3 a4 a5 a6 a7 a8 a9 a10 b11 b12 b13 b14 b15 b16 a17 (n - i) y (nI i) := by
    intro y hy n hmn i hci him
    obtain ⟨d, hd⟩ : ∃ d, d = m - i := ⟨_, rfl⟩
    induction d generalizing i with
    | zero =>
      obtain ⟨k, hk⟩ : ∃ k, n - i = k + 1 := ⟨n - i - 1, by omega⟩
      rw [hk]
      have e : i = m := by omega
      subst e
      exact pk_le i i (fun _ => hy) (fun z => absurd z (by omega))
    | succ d ih =>
      have ih' := ih (i + 1) (by omega) (by omega) (by omega)
      obtain ⟨k, hk⟩ : ∃ k, n - i = k + 1 := ⟨n - i - 1, by omega⟩
      rw [show n - (i + 1) = k by omega] at ih'
      rw [hk]
      refine pk_le m i (fun z => absurd z (by omega)) (fun _ => ⟨vp_in_nI (by omega) (by decide), ?_⟩)
      rw [nI_clamp (show i < 2 ^ 31 by omega)]
      exact br_f (hx0 i (by omega) (by omega)) (nm_r (nI_1 i) ih')
  have head : ∀ n, m < n → ∀ i, i ≤ c → wX_keysOf_40 post x u (nI m) (nI K) r t (-1) f5 a1 a2 a3 a4 a5 a6 a7 a8 a9 a10 b11 b12 b13 b14 b15 b16 a17 (n - i) 0 (nI i) := by
    intro n hmn i hic
    obtain ⟨d, hd⟩ : ∃ d, d = c - i := ⟨_, rfl⟩
    induction d generalizing i with
    | zero =>
      have e : i = c := by omega
      subst e
      obtain ⟨k, hk⟩ : ∃ k, n - i = k + 1 := ⟨n - i - 1, by omega⟩
      have ek : n - (i + 1) = k := by omega
      rw [hk]
      have fin : ∀ v : Int32, (zc_Tr 1 t (-1) a3 a5 a6 a7 a8 a9 i → v = zc_P a7 (i + 1)) → (¬ zc_Tr 1 t (-1) a3 a5 a6 a7 a8 a9 i → v = 0) →
          (((v >>> (u &&& 31)) &&& 1 = 1 → (vp_in (nI i) 12 ∧ ∀ x4 : Int32, x4 = 0 ||| ((1 : Int32) <<< (a4 i &&& 31)) → ∀ x5 : Int32, x5 = nI i + 1 → wX_keysOf_40 post x u (nI m) (nI K) r t (-1) f5 a1 a2 a3 a4 a5 a6 a7 a8 a9 a10 b11 b12 b13 b14 b15 b16 a17 k x4 x5)) ∧
          (¬ (v >>> (u &&& 31)) &&& 1 = 1 → ∀ x5 : Int32, x5 = nI i + 1 → wX_keysOf_40 post x u (nI m) (nI K) r t (-1) f5 a1 a2 a3 a4 a5 a6 a7 a8 a9 a10 b11 b12 b13 b14 b15 b16 a17 k 0 x5)) := by
        intro v hv1 hv0
        obtain ⟨g1, g0⟩ := H v hv1 hv0
        refine br_c (fun z => ⟨vp_in_nI (by omega) (by decide), nm_r (zc_0or _) (nm_r (nI_1 i) ?_)⟩) (fun z => nm_r (nI_1 i) ?_)
        · have q := tail _ (g1 z _ _ _ _ _ _ _ _ _ _ _ _) n hmn (i + 1) (by omega) (by omega)
          rw [ek] at q
          exact q
        · have q := tail _ (g0 z _ _ _ _ _ _ _ _ _ _ _ _) n hmn (i + 1) (by omega) (by omega)
          rw [ek] at q
          exact q
      refine pk_le m i (fun z => absurd z (by omega)) (fun _ => ⟨vp_in_nI (by omega) (by decide), ?_⟩)
      rw [nI_clamp (show i < 2 ^ 31 by omega)]
      refine br_t hx1 (zc_polFor hn hm k3 k1 hc h15 (fun z1 z2 => ?_) (fun z => ?_))
      · have T := (k4 i hc).mp ⟨z1, z2⟩
        exact fin _ (fun _ => rfl) (fun q => absurd T q)
      · have T : ¬ zc_Tr 1 t (-1) a3 a5 a6 a7 a8 a9 i := fun q => z ((k4 i hc).mpr q)
        exact fin 0 (fun q => absurd q T) (fun _ => rfl)
    | succ d ih =>
      have ih' := ih (i + 1) (by omega) (by omega)
      obtain ⟨k, hk⟩ : ∃ k, n - i = k + 1 := ⟨n - i - 1, by omega⟩
      rw [show n - (i + 1) = k by omega] at ih'
      rw [hk]
      refine pk_le m i (fun z => absurd z (by omega)) (fun _ => ⟨vp_in_nI (by omega) (by decide), ?_⟩)
      rw [nI_clamp (show i < 2 ^ 31 by omega)]
      exact br_f (hx0 i (by omega) (by omega)) (nm_r (nI_1 i) ih')
  exact ⟨m + 1, head (m + 1) (by omega) 0 (Nat.zero_le _)⟩
/-- trusted from 'from' up to, and not at, e -/
theorem zc_until {post : Int32 → St2 → Prop} {m c s e : Nat} (hn : zc_net m 1 a1 a2 a3 a4 a10) (hm : m ≤ 12) (hc : c < m) (hse : s ≤ e) (he : e ≤ 100)
    (hT : ∀ j, s ≤ j → j < e → zc_Tr 1 (nI j) (-1) a3 a5 a6 a7 a8 a9 c) (hF : ¬ zc_Tr 1 (nI e) (-1) a3 a5 a6 a7 a8 a9 c)
    (H : zc_all m a1 a2 a3 a4 a5 a6 a7 a8 a9 a10 (post (if s = e then -2 else nI (e - 1)))) :
    wpX_until post (nI m, f1, f2, f3, f4, f5, a1, a2, a3, a4, a5, a6, a7, a8, a9, a10, a11, a12, a13, a14, a15, a16, a17) (nI c) (nI s) := by
  unfold wpX_until
  dsimp only
  refine zc_asked hm hc (nI_pos (by omega)) (nI_nlt (a := 100) (b := s) (by omega) (by decide)) (br_f (by decide) ?_)
  refine pk_loop (σ := Int32 × Int32 × Int32 × Int32 × Int32 × Int32 × Int32 × (Nat → Int32) × (Nat → Int32) × (Nat → Int32) × (Nat → Int32) × (Nat → Int32) × (Nat → Int32) × (Nat → Int32))
    (fun n i q => wX_until_20 post (nI c) n q.1 q.2.1 (nI i) (nI m) q.2.2.1 q.2.2.2.1 q.2.2.2.2.1 q.2.2.2.2.2.1 q.2.2.2.2.2.2.1 a1 a2 a3 a4 a5 a6 a7 a8 a9 a10 q.2.2.2.2.2.2.2.1 q.2.2.2.2.2.2.2.2.1 q.2.2.2.2.2.2.2.2.2.1 q.2.2.2.2.2.2.2.2.2.2.1 q.2.2.2.2.2.2.2.2.2.2.2.1 q.2.2.2.2.2.2.2.2.2.2.2.2.1 q.2.2.2.2.2.2.2.2.2.2.2.2.2)
    (fun i q => s ≤ i ∧ q.1 = (if s = min i e then -2 else nI (min i e - 1)) ∧ (i ≤ e → q.2.1 = 1) ∧ (e < i → q.2.1 = 0))
    (e + 1) s (-2, 1, f1, f2, f3, f4, f5, a11, a12, a13, a14, a15, a16, a17) (by omega) ⟨Nat.le_refl _, ?_, fun _ => rfl, fun z => absurd z (by omega)⟩ ?_ ?_
  · show (-2 : Int32) = _
    rw [if_pos (by omega)]
  · rintro n ⟨x3, x4, g1, g2, g3, g4, g5, c11, c12, c13, c14, c15, c16, c17⟩ ⟨i1, i2, i3, i4⟩
    have e3 : x3 = if s = e then -2 else nI (e - 1) := by
      have i2' : x3 = if s = min (e + 1) e then -2 else nI (min (e + 1) e - 1) := i2
      rw [show min (e + 1) e = e by omega] at i2'
      exact i2'
    have e4 : x4 = 0 := i4 (by omega)
    subst e3 e4
    exact br_c (fun _ => H _ _ _ _ _ _ _ _ _ _ _ _) (fun _ => br_t rfl (H _ _ _ _ _ _ _ _ _ _ _ _))
  · rintro n i ⟨x3, x4, g1, g2, g3, g4, g5, c11, c12, c13, c14, c15, c16, c17⟩ hi ⟨i1, i2, i3, i4⟩ hw
    have e4 : x4 = 1 := i3 (by omega)
    have e3 : x3 = if s = min i e then -2 else nI (min i e - 1) := i2
    subst e4
    refine br_f (nI_nlt (a := 100) (b := i) (by omega) (by decide)) (br_f (show ¬ (1 : Int32) = 0 by decide) ?_)
    refine zc_FF hn hm (by decide) (by omega) (zc_flat1 _) (Or.inl rfl) (fun K r b11 b12 b13 b14 b15 b16 k1 k2 k3 k4 => ?_)
    refine zc_firstFor hn hm (zc_flat1 _) k3 k1 hc (by decide) (Or.inl rfl) (fun z1 z2 => br_f (zc_px_lt (by omega)) (br_f (by decide) (nm_r (nI_1 i) ?_))) (fun z => br_t rfl (br_t rfl (nm_r (nI_1 i) ?_)))
    · have T := (k4 c hc).mp ⟨z1, z2⟩
      have hie : i < e := Nat.lt_of_not_le fun k => by
        have : i = e := by omega
        subst this
        exact hF T
      refine hw (nI i, 1, nI K, r, nI i, -1, g5, b11, b12, b13, b14, b15, b16, c17) ⟨by omega, ?_, fun _ => rfl, fun z => absurd z (by omega)⟩
      show nI i = _
      rw [if_neg (by omega), show min (i + 1) e - 1 = i by omega]
    · have T : ¬ zc_Tr 1 (nI i) (-1) a3 a5 a6 a7 a8 a9 c := fun q => z ((k4 c hc).mpr q)
      have hie : i = e := Nat.le_antisymm (by omega) (Nat.not_lt.mp fun k => T (hT i i1 k))
      refine hw (x3, 0, nI K, r, nI i, -1, g5, b11, b12, b13, b14, b15, b16, c17) ⟨by omega, ?_, fun z => absurd z (by omega), fun _ => rfl⟩
      show x3 = _
      rw [e3, hie, show min (e + 1) e = e by omega, show min e e = e by omega]
end MORE
end
section
/-! ===== the walk: what changes certificates and anchors ===== -/
section SETTERS
variable {f0 f1 f2 f3 f4 f5 : Int32} {a1 a2 a3 a4 a5 a6 a7 a8 a9 a10 a11 a12 a13 a14 a15 a16 a17 : Nat → Int32}
theorem zc_greatest {post : Int32 → Prop} {j : Nat} {G : Int32} (hG : (j = 0 ∧ G = 1) ∨ (j = 1 ∧ G = 4) ∨ (j = 4 ∧ G = 15) ∨ ((j = 2 ∨ j = 3) ∧ G = 255)) (h : post G) : wpX_greatest post () (nI j) := by
  unfold wpX_greatest
  rcases hG with ⟨rfl, rfl⟩ | ⟨rfl, rfl⟩ | ⟨rfl, rfl⟩ | ⟨rfl | rfl, rfl⟩
  · exact br_t rfl h
  · exact br_f (by decide) (br_t rfl h)
  · exact br_f (by decide) (br_f (by decide) (br_t rfl h))
  · exact br_f (by decide) (br_f (by decide) (br_f (by decide) h))
  · exact br_f (by decide) (br_f (by decide) (br_f (by decide) h))
theorem zc_set {post : Int32 → St2 → Prop} {m c : Nat} (j : Nat) {v : Int32} (G : Int32) (hm : m ≤ 12) (hc : c < m) (hG : (j = 0 ∧ G = 1) ∨ (j = 1 ∧ G = 4) ∨ (j = 4 ∧ G = 15) ∨ ((j = 2 ∨ j = 3) ∧ G = 255)) (hv0 : ¬ v < 0) (hv1 : v ≤ G)
    (h : post (a7 (5 * c + j)) (nI m, f1, f2, f3, f4, f5, a1, a2, a3, a4, a5, a6, upd a7 (5 * c + j) v, a8, a9, a10, a11, a12, a13, a14, a15, a16, a17)) : wpX_set post (nI m, f1, f2, f3, f4, f5, a1, a2, a3, a4, a5, a6, a7, a8, a9, a10, a11, a12, a13, a14, a15, a16, a17) (nI c) (nI j) v := by
  have hj : j ≤ 4 := by omega
  have hin : vp_in (nI (5 * c + j)) 60 := vp_in_nI (by omega) (by decide)
  unfold wpX_set
  dsimp only
  rw [zc_i0, nI_add, nI_clamp (show 5 * c + j < 2 ^ 31 by omega)]
  refine zc_cert hm hc (br_f (by decide) (br_f (nI_pos (by omega)) (br_f (nI_nlt (a := 4) (b := j) hj (by decide)) (br_f hv0 (zc_greatest hG (br_t hv1 ⟨hin, nm_e ⟨hin, nm_e h⟩⟩))))))
theorem zc_times {post : Int32 → St2 → Prop} {m c : Nat} {s e : Int32} (hm : m ≤ 12) (hc : c < m) (hs0 : ¬ s < 0) (hs1 : ¬ 100 < s) (he0 : ¬ e < 0) (he1 : ¬ 100 < e) (hse : s ≤ e)
    (h : post 0 (nI m, f1, f2, f3, f4, f5, a1, a2, a3, a4, upd a5 c s, upd a6 c e, a7, a8, a9, a10, a11, a12, a13, a14, a15, a16, a17)) : wpX_times post (nI m, f1, f2, f3, f4, f5, a1, a2, a3, a4, a5, a6, a7, a8, a9, a10, a11, a12, a13, a14, a15, a16, a17) (nI c) s e := by
  have hin : vp_in (nI c) 12 := vp_in_nI (by omega) (by decide)
  unfold wpX_times
  dsimp only
  rw [nI_clamp (show c < 2 ^ 31 by omega)]
  exact zc_cert hm hc (br_f (by decide) (zc_time hs0 hs1 (br_f (by decide) (zc_time he0 he1 (br_f (by decide) (br_t hse ⟨hin, nm_e ⟨hin, nm_e h⟩⟩))))))
theorem zc_revoke {post : Int32 → St2 → Prop} {m c : Nat} {s : Int32} (hm : m ≤ 12) (hc : c < m) (hs0 : ¬ s < 0) (hs1 : ¬ 100 < s)
    (h : ∀ r, post r (nI m, f1, f2, f3, f4, f5, a1, a2, a3, a4, a5, a6, a7, upd a8 c s, a9, a10, a11, a12, a13, a14, a15, a16, a17)) : wpX_revoke post (nI m, f1, f2, f3, f4, f5, a1, a2, a3, a4, a5, a6, a7, a8, a9, a10, a11, a12, a13, a14, a15, a16, a17) (nI c) s := by
  have hin : vp_in (nI c) 12 := vp_in_nI (by omega) (by decide)
  have key : ∀ r, wX_revoke_34 post (nI c) s r (nI m) f1 f2 f3 f4 f5 a1 a2 a3 a4 a5 a6 a7 a8 a9 a10 a11 a12 a13 a14 a15 a16 a17 := by
    intro r
    unfold wX_revoke_34
    rw [nI_clamp (show c < 2 ^ 31 by omega)]
    exact ⟨hin, nm_e (h r)⟩
  unfold wpX_revoke
  dsimp only
  exact zc_cert hm hc (br_f (by decide) (zc_time hs0 hs1 (br_f (by decide) ⟨hin, br_c (fun _ => key 0) (fun _ => key 1)⟩)))
theorem zc_nar1 : vp_nar .boolean 1 = 1 := by decide
theorem zc_hold {post : Int32 → St2 → Prop} {m c : Nat} (hm : m ≤ 12) (hc : c < m) (h0 : a9 c = 0)
    (h : post 0 (nI m, f1, f2, f3, f4, f5, a1, a2, a3, a4, a5, a6, a7, a8, upd a9 c 1, a10, a11, a12, a13, a14, a15, a16, a17)) : wpX_hold post (nI m, f1, f2, f3, f4, f5, a1, a2, a3, a4, a5, a6, a7, a8, a9, a10, a11, a12, a13, a14, a15, a16, a17) (nI c) 1 := by
  have hin : vp_in (nI c) 12 := vp_in_nI (by omega) (by decide)
  have key : wX_hold_24 post (nI c) 1 0 (nI m) f1 f2 f3 f4 f5 a1 a2 a3 a4 a5 a6 a7 a8 a9 a10 a11 a12 a13 a14 a15 a16 a17 := by
    unfold wX_hold_24
    rw [nI_clamp (show c < 2 ^ 31 by omega), zc_nar1]
    exact ⟨hin, nm_e h⟩
  unfold wpX_hold
  dsimp only
  rw [nI_clamp (show c < 2 ^ 31 by omega)]
  exact zc_cert hm hc (br_f (by decide) ⟨hin, br_t h0 key⟩)
theorem zc_anchor {post : Int32 → St2 → Prop} {k v : Nat} (hk : k < 3) (hv : v < 80) (h0 : a10 k = -1)
    (h : post 0 (f0, f1, f2, f3, f4, f5, a1, a2, a3, a4, a5, a6, a7, a8, a9, upd a10 k (nI v), a11, a12, a13, a14, a15, a16, a17)) : wpX_anchor post (f0, f1, f2, f3, f4, f5, a1, a2, a3, a4, a5, a6, a7, a8, a9, a10, a11, a12, a13, a14, a15, a16, a17) (nI k) (nI v) := by
  have hin : vp_in (nI k) 3 := vp_in_nI hk (by decide)
  have key : wX_anchor_33 post (nI k) (nI v) 0 f0 f1 f2 f3 f4 f5 a1 a2 a3 a4 a5 a6 a7 a8 a9 a10 a11 a12 a13 a14 a15 a16 a17 := by
    unfold wX_anchor_33
    rw [nI_clamp (show k < 2 ^ 31 by omega)]
    exact ⟨hin, nm_e h⟩
  unfold wpX_anchor
  dsimp only
  rw [nI_clamp (show k < 2 ^ 31 by omega), h0]
  unfold wpX_isAnchor
  exact br_f (nI_pos (by omega)) (br_f (nI_ge (b := 3) hk (by decide)) (br_f (by decide) (br_f (nI_pos (by omega)) (br_t (nI_lt (b := 80) hv (by decide)) ⟨hin, br_f (by decide) key⟩))))
theorem zc_make {post : Int32 → St2 → Prop} {m x1 x3 x2 x4 : Nat} (hm : m < 12) (h1 : x1 < 8) (h3 : x3 < 8) (h2 : x2 < 10) (h4 : x4 < 10)
    (h : post (nI m) (nI (m + 1), f1, f2, f3, f4, f5, upd a1 m (nI x1), upd a2 m (nI x2), upd a3 m (nI x3), upd a4 m (nI x4), a5, upd a6 m 100, upd (upd (upd (upd a7 (5 * m) 1) (5 * m + 1) 4) (5 * m + 2) 255) (5 * m + 4) 15, upd a8 m 1000, a9, a10, a11, a12, a13, a14, a15, a16, a17)) :
    wpX_make post (nI m, f1, f2, f3, f4, f5, a1, a2, a3, a4, a5, a6, a7, a8, a9, a10, a11, a12, a13, a14, a15, a16, a17) (8 * nI x1 + nI x3) (10 * nI x2 + nI x4) := by
  have hin : vp_in (nI m) 12 := vp_in_nI hm (by decide)
  have e1 : 8 * nI x1 + nI x3 = nI (8 * x1 + x3) := by
    rw [← nI_add, ← pk_mul]
    rfl
  have e2 : 10 * nI x2 + nI x4 = nI (10 * x2 + x4) := by
    rw [← nI_add, ← pk_mul]
    rfl
  have d1 : nI (8 * x1 + x3) / 8 = nI x1 := by
    rw [show (8 : Int32) = nI 8 from rfl, pk_div (by omega) (by decide) (by decide), show (8 * x1 + x3) / 8 = x1 by omega]
  have d2 : nI (8 * x1 + x3) - nI (8 * x1 + x3) / 8 * 8 = nI x3 := by
    rw [show (8 : Int32) = nI 8 from rfl, pk_rem (by omega) (by decide) (by decide), show (8 * x1 + x3) % 8 = x3 by omega]
  have d3 : nI (10 * x2 + x4) / 10 = nI x2 := by
    rw [show (10 : Int32) = nI 10 from rfl, pk_div (by omega) (by decide) (by decide), show (10 * x2 + x4) / 10 = x2 by omega]
  have d4 : nI (10 * x2 + x4) - nI (10 * x2 + x4) / 10 * 10 = nI x4 := by
    rw [show (10 : Int32) = nI 10 from rfl, pk_rem (by omega) (by decide) (by decide), show (10 * x2 + x4) % 10 = x4 by omega]
  unfold wpX_make
  dsimp only
  rw [e1, e2, zc_i1, zc_i2, zc_i4, zc_i0, nI_clamp (show m < 2 ^ 31 by omega), nI_clamp (show 5 * m < 2 ^ 31 by omega), nI_clamp (show 5 * m + 1 < 2 ^ 31 by omega), nI_clamp (show 5 * m + 2 < 2 ^ 31 by omega), nI_clamp (show 5 * m + 4 < 2 ^ 31 by omega), d2, d1, d4, d3]
  refine br_f (nI_pos (by omega)) (br_f (nI_ge (b := 64) (by omega) (by decide)) (br_f (nI_pos (by omega)) (br_t (nI_lt (b := 100) (by omega) (by decide)) (br_t (nI_lt (b := 12) hm (by decide)) (nm_r (nI_1 m) ?_)))))
  have n8 : ¬ (8 : Int32) = 0 := by decide
  have n10 : ¬ (10 : Int32) = 0 := by decide
  have i0 : vp_in (nI (5 * m)) 60 := vp_in_nI (by omega) (by decide)
  have i1 : vp_in (nI (5 * m + 1)) 60 := vp_in_nI (by omega) (by decide)
  have i2 : vp_in (nI (5 * m + 2)) 60 := vp_in_nI (by omega) (by decide)
  have i4 : vp_in (nI (5 * m + 4)) 60 := vp_in_nI (by omega) (by decide)
  exact ⟨n8, hin, nm_e ⟨n8, hin, nm_e ⟨n10, hin, nm_e ⟨n10, hin, nm_e ⟨hin, nm_e ⟨i0, nm_e ⟨i1, nm_e ⟨i2, nm_e ⟨i4, nm_e ⟨hin, nm_e h⟩⟩⟩⟩⟩⟩⟩⟩⟩⟩
end SETTERS
end
section
/-! ===== pure laws: who is trusted, setting by setting ===== -/
def zc_dS (m : Nat) (g : Nat → Int32) : Prop := ∀ c, c < m → g (5 * c) = 1 ∧ g (5 * c + 1) = 4 ∧ g (5 * c + 2) = 255 ∧ g (5 * c + 3) = 0 ∧ g (5 * c + 4) = 15
def zc_dT (m : Nat) (b5 b6 b8 b9 : Nat → Int32) : Prop := ∀ c, c < m → b5 c = 0 ∧ b6 c = 100 ∧ b8 c = 1000 ∧ b9 c = 0
def zc_nm (m : Nat) (b3 : Nat → Int32) : Prop := ∀ c, c < m → ∃ j, j < 8 ∧ b3 c = nI j
theorem zc_O255 {g : Nat → Int32} {c : Nat} (h : ∀ i, i < c → g (5 * i + 2) = 255 ∧ g (5 * i + 3) = 0) : zc_O g c = 255 := by
  induction c with
  | zero => rfl
  | succ c ih =>
    show (zc_O g c &&& g (5 * c + 2)) &&& (g (5 * c + 3) ^^^ (-1)) = 255
    rw [ih (fun i hi => h i (by omega)), (h c (by omega)).1, (h c (by omega)).2]
    decide
theorem zc_P15 {g : Nat → Int32} {c : Nat} (h : ∀ i, i < c → g (5 * i + 4) = 15) : zc_P g c = 15 := by
  induction c with
  | zero => rfl
  | succ c ih =>
    show zc_P g c &&& g (5 * c + 4) = 15
    rw [ih (fun i hi => h i (by omega)), h c (by omega)]
    decide
theorem zc_M4 {g : Nat → Int32} {c : Nat} (h : ∀ i, i < c → g (5 * i + 1) = 4) : zc_M g c = 4 := by
  induction c with
  | zero => rfl
  | succ c ih =>
    show (if zc_cm (zc_M g c) ≤ g (5 * c + 1) then zc_cm (zc_M g c) else g (5 * c + 1)) = 4
    rw [ih (fun i hi => h i (by omega)), h c (by omega)]
    decide
theorem zc_op8 : ∀ j, j < 8 → ((255 : Int32) >>> (nI j &&& 31)) &&& 1 = 1 := by decide +kernel
theorem zc_op1 {b3 : Nat → Int32} {c : Nat} (hn : ∃ j, j < 8 ∧ b3 c = nI j) : zc_op b3 255 c := by
  obtain ⟨j, hj, e⟩ := hn
  unfold zc_op
  rw [e]
  exact zc_op8 j hj
theorem zc_n1 {c : Nat} (h : c < 2 ^ 31) : ¬ nI c = -1 := by
  intro e
  have h2 : (nI c).toInt = ((-1 : Int32)).toInt := congrArg Int32.toInt e
  rw [nI_toInt h] at h2
  have h3 : ((-1 : Int32)).toInt = -1 := by decide
  omega
theorem zc_1000 {t : Int32} (h : ¬ 100 < t) : ¬ 1000 ≤ t := by
  rw [Int32.lt_iff_toInt_lt] at h
  rw [Int32.le_iff_toInt_le]
  have h1 : (100 : Int32).toInt = 100 := by decide
  have h2 : (1000 : Int32).toInt = 1000 := by decide
  omega
section LAWS
variable {b3 b5 b6 g b8 b9 : Nat → Int32} {m : Nat} {t w : Int32}
theorem zc_gd {c : Nat} (hT : zc_dT m b5 b6 b8 b9) (hc : c < m) (ht0 : ¬ t < 0) (ht1 : ¬ 100 < t) (hw : ¬ nI c = w) : zc_good t w b5 b6 b8 b9 c := by
  obtain ⟨e5, e6, e8, e9⟩ := hT c hc
  unfold zc_good
  rw [e5, e6, e8, e9]
  exact ⟨hw, rfl, ht0, ht1, zc_1000 ht1⟩
theorem zc_dO (hS : zc_dS m g) {c : Nat} (hc : c ≤ m) : zc_O g c = 255 := zc_O255 (fun i hi => ⟨(hS i (by omega)).2.2.1, (hS i (by omega)).2.2.2.1⟩)
theorem zc_dP (hS : zc_dS m g) {c : Nat} (hc : c ≤ m) : zc_P g c = 15 := zc_P15 (fun i hi => (hS i (by omega)).2.2.2.2)
theorem zc_dM (hS : zc_dS m g) {c : Nat} (hc : c ≤ m) : zc_M g c = 4 := zc_M4 (fun i hi => (hS i (by omega)).2.1)
/-- from the pieces -/
theorem zc_mkE {c : Nat} {P O M : Int32} (h0 : g (5 * c) = 1) (hG : zc_good t w b5 b6 b8 b9 c) (eP : zc_P g (c + 1) = P) (hP : ¬ P = 0) (eM : zc_M g c = M) (hM : ¬ M = 0) (eO : zc_O g c = O) (hO : zc_op b3 O c) : zc_Ext t w b3 b5 b6 g b8 b9 c := by
  refine ⟨by rw [h0]; decide, hG, by rw [eP]; exact hP, by rw [eM]; exact hM, by rw [eO]; exact hO⟩
theorem zc_mkN {c : Nat} {P O : Int32} (hG : zc_good t w b5 b6 b8 b9 c) (eP : zc_P g (c + 1) = P) (hP : ¬ P = 0) (eO : zc_O g c = O) (hO : zc_op b3 O c) : zc_End t w b3 b5 b6 g b8 b9 c :=
  ⟨hG, by rw [eO]; exact hO, by rw [eP]; exact hP⟩
theorem zc_ExtD (hS : zc_dS m g) (hN : zc_nm m b3) {c : Nat} (hc : c < m) (hG : zc_good t w b5 b6 b8 b9 c) : zc_Ext t w b3 b5 b6 g b8 b9 c :=
  zc_mkE (hS c hc).1 hG (zc_dP hS hc) (by decide) (zc_dM hS (by omega)) (by decide) (zc_dO hS (by omega)) (zc_op1 (hN c hc))
theorem zc_EndD (hS : zc_dS m g) (hN : zc_nm m b3) {c : Nat} (hc : c < m) (hG : zc_good t w b5 b6 b8 b9 c) : zc_End t w b3 b5 b6 g b8 b9 c :=
  zc_mkN hG (zc_dP hS hc) (by decide) (zc_dO hS (by omega)) (zc_op1 (hN c hc))
/-- default settings: all that counts is who is good -/
theorem zc_TrG {A c : Nat} (hS : zc_dS m g) (hN : zc_nm m b3) (hc : c < m) : zc_Tr A t w b3 b5 b6 g b8 b9 c ↔ c ≤ 4 + A ∧ ∀ j, j ≤ c → zc_good t w b5 b6 b8 b9 j := by
  constructor
  · rintro ⟨h1, h2, h3⟩
    refine ⟨h1, fun j hj => ?_⟩
    by_cases e : j = c
    · subst e; exact h3.1
    · exact (h2 j (by omega)).2.1
  · rintro ⟨h1, h2⟩
    exact ⟨h1, fun j hj => zc_ExtD hS hN (by omega) (h2 j (by omega)), zc_EndD hS hN hc (h2 c (Nat.le_refl _))⟩
theorem zc_L1 {A c : Nat} (hS : zc_dS m g) (hT : zc_dT m b5 b6 b8 b9) (hN : zc_nm m b3) (hc : c < m) (ht0 : ¬ t < 0) (ht1 : ¬ 100 < t) : zc_Tr A t w b3 b5 b6 g b8 b9 c ↔ c ≤ 4 + A ∧ ∀ j, j ≤ c → ¬ nI j = w := by
  rw [zc_TrG hS hN hc]
  constructor
  · rintro ⟨h1, h2⟩
    exact ⟨h1, fun j hj => (h2 j hj).1⟩
  · rintro ⟨h1, h2⟩
    exact ⟨h1, fun j hj => zc_gd hT (by omega) ht0 ht1 (h2 j hj)⟩
theorem zc_L1m {A c : Nat} (hm : m ≤ 12) (hS : zc_dS m g) (hT : zc_dT m b5 b6 b8 b9) (hN : zc_nm m b3) (hc : c < m) (ht0 : ¬ t < 0) (ht1 : ¬ 100 < t) : zc_Tr A t (-1) b3 b5 b6 g b8 b9 c ↔ c < 5 + A := by
  rw [zc_L1 hS hT hN hc ht0 ht1]
  constructor
  · rintro ⟨h1, _⟩
    omega
  · intro h
    exact ⟨by omega, fun j hj => zc_n1 (by omega)⟩
theorem zc_L1i {c i : Nat} (hm : m ≤ 12) (hS : zc_dS m g) (hT : zc_dT m b5 b6 b8 b9) (hN : zc_nm m b3) (hc : c < m) (hi : i < m) (ht0 : ¬ t < 0) (ht1 : ¬ 100 < t) : zc_Tr 1 t (nI i) b3 b5 b6 g b8 b9 c ↔ c < min i 6 := by
  rw [zc_L1 hS hT hN hc ht0 ht1]
  constructor
  · rintro ⟨h1, h2⟩
    have : ¬ i ≤ c := fun z => h2 i z rfl
    omega
  · intro h
    refine ⟨by omega, fun j hj z => ?_⟩
    have := (nI_eq (by omega) (by omega)).mp z
    omega
theorem zc_L1z {c : Nat} : ¬ zc_Tr 1 t 0 b3 b5 b6 g b8 b9 c := by
  rintro ⟨h1, h2, h3⟩
  by_cases e : c = 0
  · subst e
    exact h3.1.1 rfl
  · exact (h2 0 (by omega)).2.1.1 rfl
/-! a limit at a -/
theorem zc_Mlim {a l j : Nat} (h4 : ∀ i, i < m → i ≠ a → g (5 * i + 1) = 4) (ha : g (5 * a + 1) = nI l) (hl : l ≤ 3) (ham : a < m) (hj : j ≤ l) (hjm : a + 1 + j ≤ m) : zc_M g (a + 1 + j) = nI (l - j) := by
  induction j with
  | zero =>
    show (if zc_cm (zc_M g a) ≤ g (5 * a + 1) then zc_cm (zc_M g a) else g (5 * a + 1)) = nI l
    rw [zc_M4 (fun i hi => h4 i (by omega) (by omega)), ha, show zc_cm 4 = 4 by decide, if_neg (show ¬ (4 : Int32) ≤ nI l from nI_ge (a := l) (b := 4) (by omega) (by decide))]
  | succ j ih =>
    show (if zc_cm (zc_M g (a + 1 + j)) ≤ g (5 * (a + 1 + j) + 1) then zc_cm (zc_M g (a + 1 + j)) else g (5 * (a + 1 + j) + 1)) = nI (l - (j + 1))
    rw [ih (by omega) (by omega), h4 (a + 1 + j) (by omega) (by omega)]
    obtain ⟨k, hk⟩ : ∃ k, l - j = k + 1 := ⟨l - j - 1, by omega⟩
    have e : zc_cm (nI (l - j)) = nI (l - (j + 1)) := by
      unfold zc_cm
      rw [if_neg (show ¬ nI (l - j) = 4 from fun z => absurd ((nI_eq (a := l - j) (b := 4) (by omega) (by decide)).mp z) (by omega)), hk, nI_pred, show l - (j + 1) = k by omega]
    rw [e, if_pos (show nI (l - (j + 1)) ≤ 4 from nI_le (a := l - (j + 1)) (b := 4) (by omega) (by decide))]
theorem zc_L2 {a e l : Nat} (hm : m ≤ 12) (hS : zc_dS m g) (hT : zc_dT m b5 b6 b8 b9) (hN : zc_nm m b3) (hae : a ≤ e) (he : e < m) (he5 : e ≤ 5) (hl : l ≤ 3) (ht0 : ¬ t < 0) (ht1 : ¬ 100 < t) :
    zc_Tr 1 t (-1) b3 b5 b6 (upd g (5 * a + 1) (nI l)) b8 b9 e ↔ e ≤ a + 1 + l := by
  have g0 : ∀ i, i < m → upd g (5 * a + 1) (nI l) (5 * i) = 1 := fun i hi => by rw [pk_un (by omega)]; exact (hS i hi).1
  have g1 : ∀ i, i < m → i ≠ a → upd g (5 * a + 1) (nI l) (5 * i + 1) = 4 := fun i hi hn => by rw [pk_un (by omega)]; exact (hS i hi).2.1
  have g2 : ∀ i, i < m → upd g (5 * a + 1) (nI l) (5 * i + 2) = 255 := fun i hi => by rw [pk_un (by omega)]; exact (hS i hi).2.2.1
  have g3 : ∀ i, i < m → upd g (5 * a + 1) (nI l) (5 * i + 3) = 0 := fun i hi => by rw [pk_un (by omega)]; exact (hS i hi).2.2.2.1
  have g4 : ∀ i, i < m → upd g (5 * a + 1) (nI l) (5 * i + 4) = 15 := fun i hi => by rw [pk_un (by omega)]; exact (hS i hi).2.2.2.2
  have gO : ∀ c, c ≤ m → zc_O (upd g (5 * a + 1) (nI l)) c = 255 := fun c hc => zc_O255 (fun i hi => ⟨g2 i (by omega), g3 i (by omega)⟩)
  have gP : ∀ c, c ≤ m → zc_P (upd g (5 * a + 1) (nI l)) c = 15 := fun c hc => zc_P15 (fun i hi => g4 i (by omega))
  have gG : ∀ c, c < m → zc_good t (-1) b5 b6 b8 b9 c := fun c hc => zc_gd hT hc ht0 ht1 (zc_n1 (by omega))
  have gM : ∀ j, j ≤ l → a + 1 + j ≤ m → zc_M (upd g (5 * a + 1) (nI l)) (a + 1 + j) = nI (l - j) := fun j h1 h2 => zc_Mlim g1 pk_us hl (by omega) h1 h2
  constructor
  · rintro ⟨_, h2, _⟩
    refine Nat.not_lt.mp fun z => (h2 (a + 1 + l) z).2.2.2.1 ?_
    rw [gM l (Nat.le_refl _) (by omega), Nat.sub_self]
    rfl
  · intro h
    refine ⟨by omega, fun j hj => ?_, zc_mkN (gG e he) (gP _ he) (by decide) (gO _ (by omega)) (zc_op1 (hN e he))⟩
    by_cases hja : j ≤ a
    · exact zc_mkE (g0 j (by omega)) (gG j (by omega)) (gP _ (by omega)) (by decide) (zc_M4 (fun i hi => g1 i (by omega) (by omega))) (by decide) (gO _ (by omega)) (zc_op1 (hN j (by omega)))
    · obtain ⟨k, rfl⟩ : ∃ k, j = a + 1 + k := ⟨j - a - 1, by omega⟩
      exact zc_mkE (g0 _ (by omega)) (gG _ (by omega)) (gP _ (by omega)) (by decide) (gM k (by omega) (by omega)) (nI_ne0 (by omega) (by omega)) (gO _ (by omega)) (zc_op1 (hN _ (by omega)))
/-! names at a -/
theorem zc_L3 {a e : Nat} {al ba : Int32} (hm : m ≤ 12) (hS : zc_dS m g) (hT : zc_dT m b5 b6 b8 b9) (hN : zc_nm m b3) (hae : a ≤ e) (he : e < m) (he5 : e ≤ 5) (hal : 255 &&& al = al) (ht0 : ¬ t < 0) (ht1 : ¬ 100 < t) :
    zc_Tr 1 t (-1) b3 b5 b6 (upd (upd g (5 * a + 2) al) (5 * a + 3) ba) b8 b9 e ↔ ∀ j, a < j → j ≤ e → zc_op b3 (al &&& (ba ^^^ (-1))) j := by
  have g0 : ∀ i, i < m → upd (upd g (5 * a + 2) al) (5 * a + 3) ba (5 * i) = 1 := fun i hi => by rw [pk_un (by omega), pk_un (by omega)]; exact (hS i hi).1
  have g1 : ∀ i, i < m → upd (upd g (5 * a + 2) al) (5 * a + 3) ba (5 * i + 1) = 4 := fun i hi => by rw [pk_un (by omega), pk_un (by omega)]; exact (hS i hi).2.1
  have g2 : ∀ i, i < m → i ≠ a → upd (upd g (5 * a + 2) al) (5 * a + 3) ba (5 * i + 2) = 255 := fun i hi hn => by rw [pk_un (by omega), pk_un (by omega)]; exact (hS i hi).2.2.1
  have g3 : ∀ i, i < m → i ≠ a → upd (upd g (5 * a + 2) al) (5 * a + 3) ba (5 * i + 3) = 0 := fun i hi hn => by rw [pk_un (by omega), pk_un (by omega)]; exact (hS i hi).2.2.2.1
  have g4 : ∀ i, i < m → upd (upd g (5 * a + 2) al) (5 * a + 3) ba (5 * i + 4) = 15 := fun i hi => by rw [pk_un (by omega), pk_un (by omega)]; exact (hS i hi).2.2.2.2
  have ga : upd (upd g (5 * a + 2) al) (5 * a + 3) ba (5 * a + 2) = al := by rw [pk_un (by omega), pk_us]
  have gb : upd (upd g (5 * a + 2) al) (5 * a + 3) ba (5 * a + 3) = ba := pk_us
  revert g0 g1 g2 g3 g4 ga gb
  generalize upd (upd g (5 * a + 2) al) (5 * a + 3) ba = G
  intro g0 g1 g2 g3 g4 ga gb
  have gO : ∀ c, c ≤ a → zc_O G c = 255 := fun c hc => zc_O255 (fun i hi => ⟨g2 i (by omega) (by omega), g3 i (by omega) (by omega)⟩)
  have gX : ∀ j, a + 1 + j ≤ m → zc_O G (a + 1 + j) = al &&& (ba ^^^ (-1)) := by
    intro j
    induction j with
    | zero =>
      intro _
      show (zc_O G a &&& G (5 * a + 2)) &&& (G (5 * a + 3) ^^^ (-1)) = _
      rw [gO a (Nat.le_refl _), ga, gb, hal]
    | succ j ih =>
      intro hj
      show (zc_O G (a + 1 + j) &&& G (5 * (a + 1 + j) + 2)) &&& (G (5 * (a + 1 + j) + 3) ^^^ (-1)) = _
      rw [ih (by omega), g2 _ (by omega) (by omega), g3 _ (by omega) (by omega), show (0 : Int32) ^^^ (-1) = -1 by decide, Int32.and_neg_one, Int32.and_comm, ← Int32.and_assoc, hal]
  have gP : ∀ c, c ≤ m → zc_P G c = 15 := fun c hc => zc_P15 (fun i hi => g4 i (by omega))
  have gM : ∀ c, c ≤ m → zc_M G c = 4 := fun c hc => zc_M4 (fun i hi => g1 i (by omega))
  have gG : ∀ c, c < m → zc_good t (-1) b5 b6 b8 b9 c := fun c hc => zc_gd hT hc ht0 ht1 (zc_n1 (by omega))
  have gx : ∀ j, a < j → j ≤ m → zc_O G j = al &&& (ba ^^^ (-1)) := fun j h1 h2 => by
    obtain ⟨k, rfl⟩ : ∃ k, j = a + 1 + k := ⟨j - a - 1, by omega⟩
    exact gX k h2
  constructor
  · rintro ⟨_, h2, h3⟩ j hj hje
    rw [← gx j hj (by omega)]
    by_cases ej : j = e
    · subst ej
      exact h3.2.1
    · exact (h2 j (by omega)).2.2.2.2
  · intro h
    refine ⟨by omega, fun j hj => ?_, ?_⟩
    · by_cases hja : j ≤ a
      · exact zc_mkE (g0 j (by omega)) (gG j (by omega)) (gP _ (by omega)) (by decide) (gM _ (by omega)) (by decide) (gO _ (by omega)) (zc_op1 (hN j (by omega)))
      · exact zc_mkE (g0 j (by omega)) (gG j (by omega)) (gP _ (by omega)) (by decide) (gM _ (by omega)) (by decide) (gx j (by omega) (by omega)) (h j (by omega) (by omega))
    · by_cases hja : e ≤ a
      · exact zc_mkN (gG e he) (gP _ he) (by decide) (gO _ hja) (zc_op1 (hN e he))
      · exact zc_mkN (gG e he) (gP _ he) (by decide) (gx e (by omega) (by omega)) (h e (by omega) (Nat.le_refl _))
/-! policies at o and at a -/
theorem zc_P0 {c j : Nat} (h : zc_P g j = 0) : zc_P g (j + c) = 0 := by
  induction c with
  | zero => exact h
  | succ c ih =>
    show zc_P g (j + c) &&& g (5 * (j + c) + 4) = 0
    rw [ih, Int32.zero_and]
theorem zc_P2 {a o c : Nat} {p q : Int32} (hne : o ≠ a) (h4 : ∀ i, i < m → i ≠ a → i ≠ o → g (5 * i + 4) = 15) (ha : g (5 * a + 4) = q) (ho : g (5 * o + 4) = p) (hp : 15 &&& p = p) (hq : 15 &&& q = q) (hc : c ≤ m) :
    zc_P g c = (if o < c then p else 15) &&& (if a < c then q else 15) := by
  induction c with
  | zero =>
    rw [if_neg (Nat.not_lt_zero _), if_neg (Nat.not_lt_zero _)]
    show (15 : Int32) = 15 &&& 15
    decide
  | succ c ih =>
    show zc_P g c &&& g (5 * c + 4) = _
    rw [ih (by omega)]
    have h15 : (15 : Int32) &&& 15 = 15 := by decide
    by_cases ea : c = a
    · subst ea
      rw [ha, if_neg (show ¬ c < c by omega), if_pos (show c < c + 1 by omega)]
      by_cases eo : o < c
      · rw [if_pos eo, if_pos (show o < c + 1 by omega), Int32.and_assoc, hq]
      · rw [if_neg eo, if_neg (show ¬ o < c + 1 by omega), Int32.and_assoc, hq]
        exact hq
    · by_cases eo : c = o
      · subst eo
        rw [ho, if_neg (show ¬ c < c by omega), if_pos (show c < c + 1 by omega)]
        by_cases e2 : a < c
        · rw [if_pos e2, if_pos (show a < c + 1 by omega), hq, Int32.and_comm]
        · rw [if_neg e2, if_neg (show ¬ a < c + 1 by omega), h15, Int32.and_comm]
      · rw [h4 c (by omega) ea eo]
        have e1 : (if o < c + 1 then p else 15) = (if o < c then p else 15) := by
          by_cases z : o < c
          · rw [if_pos z, if_pos (by omega)]
          · rw [if_neg z, if_neg (by omega)]
        have e2 : (if a < c + 1 then q else 15) = (if a < c then q else 15) := by
          by_cases z : a < c
          · rw [if_pos z, if_pos (by omega)]
          · rw [if_neg z, if_neg (by omega)]
        have e3 : (if a < c then q else 15) &&& 15 = (if a < c then q else 15) := by
          by_cases z : a < c
          · rw [if_pos z, Int32.and_comm, hq]
          · rw [if_neg z, h15]
        rw [e1, e2, Int32.and_assoc, e3]
theorem zc_P1 {a c : Nat} {q : Int32} (h4 : ∀ i, i < m → i ≠ a → g (5 * i + 4) = 15) (ha : g (5 * a + 4) = q) (hq : 15 &&& q = q) (hac : a < c) (hc : c ≤ m) : zc_P g c = q := by
  obtain ⟨k, rfl⟩ : ∃ k, c = a + 1 + k := ⟨c - a - 1, by omega⟩
  induction k with
  | zero =>
    show zc_P g a &&& g (5 * a + 4) = q
    rw [zc_P15 (fun i hi => h4 i (by omega) (by omega)), ha, hq]
  | succ k ih =>
    show zc_P g (a + 1 + k) &&& g (5 * (a + 1 + k) + 4) = q
    rw [ih (by omega) (by omega), h4 _ (by omega) (by omega), Int32.and_comm, hq]
theorem zc_L4 {a o e : Nat} {p q v : Int32} (hm : m ≤ 12) (hS : zc_dS m g) (hT : zc_dT m b5 b6 b8 b9) (hN : zc_nm m b3) (hae : a ≤ e) (hoe : o ≤ e) (he : e < m) (he5 : e ≤ 5) (hp : 15 &&& p = p) (hq : 15 &&& q = q) (hv : v = if o = a then q else p &&& q) (ht0 : ¬ t < 0) (ht1 : ¬ 100 < t) :
    zc_P (upd (upd g (5 * o + 4) p) (5 * a + 4) q) (e + 1) = v ∧ (zc_Tr 1 t (-1) b3 b5 b6 (upd (upd g (5 * o + 4) p) (5 * a + 4) q) b8 b9 e ↔ ¬ v = 0) := by
  have g0 : ∀ i, i < m → upd (upd g (5 * o + 4) p) (5 * a + 4) q (5 * i) = 1 := fun i hi => by rw [pk_un (by omega), pk_un (by omega)]; exact (hS i hi).1
  have g1 : ∀ i, i < m → upd (upd g (5 * o + 4) p) (5 * a + 4) q (5 * i + 1) = 4 := fun i hi => by rw [pk_un (by omega), pk_un (by omega)]; exact (hS i hi).2.1
  have g2 : ∀ i, i < m → upd (upd g (5 * o + 4) p) (5 * a + 4) q (5 * i + 2) = 255 := fun i hi => by rw [pk_un (by omega), pk_un (by omega)]; exact (hS i hi).2.2.1
  have g3 : ∀ i, i < m → upd (upd g (5 * o + 4) p) (5 * a + 4) q (5 * i + 3) = 0 := fun i hi => by rw [pk_un (by omega), pk_un (by omega)]; exact (hS i hi).2.2.2.1
  have g4 : ∀ i, i < m → i ≠ a → i ≠ o → upd (upd g (5 * o + 4) p) (5 * a + 4) q (5 * i + 4) = 15 := fun i hi h1 h2 => by rw [pk_un (by omega), pk_un (by omega)]; exact (hS i hi).2.2.2.2
  have ga : upd (upd g (5 * o + 4) p) (5 * a + 4) q (5 * a + 4) = q := pk_us
  have go : o ≠ a → upd (upd g (5 * o + 4) p) (5 * a + 4) q (5 * o + 4) = p := fun z => by rw [pk_un (by omega), pk_us]
  revert g0 g1 g2 g3 g4 ga go
  generalize upd (upd g (5 * o + 4) p) (5 * a + 4) q = G
  intro g0 g1 g2 g3 g4 ga go
  have gO : ∀ c, c ≤ m → zc_O G c = 255 := fun c hc => zc_O255 (fun i hi => ⟨g2 i (by omega), g3 i (by omega)⟩)
  have gM : ∀ c, c ≤ m → zc_M G c = 4 := fun c hc => zc_M4 (fun i hi => g1 i (by omega))
  have gG : ∀ c, c < m → zc_good t (-1) b5 b6 b8 b9 c := fun c hc => zc_gd hT hc ht0 ht1 (zc_n1 (by omega))
  have eP : zc_P G (e + 1) = v := by
    rw [hv]
    by_cases z : o = a
    · rw [if_pos z]
      exact zc_P1 (fun i hi h1 => g4 i hi h1 (by omega)) ga hq (by omega) he
    · rw [if_neg z, zc_P2 z g4 ga (go z) hp hq he, if_pos (by omega), if_pos (by omega)]
  refine ⟨eP, ?_⟩
  constructor
  · rintro ⟨_, _, h3⟩
    rw [← eP]
    exact h3.2.2
  · intro h
    have gP : ∀ j, j ≤ e → ¬ zc_P G (j + 1) = 0 := fun j hj z => by
      have q := zc_P0 (c := e - j) z
      rw [show j + 1 + (e - j) = e + 1 by omega, eP] at q
      exact h q
    exact ⟨by omega, fun j hj => zc_mkE (g0 j (by omega)) (gG j (by omega)) rfl (gP j (by omega)) (gM _ (by omega)) (by decide) (gO _ (by omega)) (zc_op1 (hN j (by omega))), zc_mkN (gG e he) rfl (gP e (Nat.le_refl _)) (gO _ (by omega)) (zc_op1 (hN e he))⟩
/-! times at a, a revocation at o -/
theorem zc_L5 {a o e s f k n : Nat} (hm : m ≤ 12) (hS : zc_dS m g) (hT : zc_dT m b5 b6 b8 b9) (hN : zc_nm m b3) (hae : a ≤ e) (hoe : o ≤ e) (he : e < m) (he5 : e ≤ 5) (hs : s ≤ 100) (hf : f ≤ 100) (hk : k ≤ 100) (hn : n ≤ 100) :
    zc_Tr 1 (nI n) (-1) b3 (upd b5 a (nI s)) (upd b6 a (nI f)) g (upd b8 o (nI k)) b9 e ↔ s ≤ n ∧ n ≤ f ∧ n < k := by
  have G : ∀ j, j < m → (zc_good (nI n) (-1) (upd b5 a (nI s)) (upd b6 a (nI f)) (upd b8 o (nI k)) b9 j ↔ (j = a → s ≤ n ∧ n ≤ f) ∧ (j = o → n < k)) := by
    intro j hj
    obtain ⟨e5, e6, e8, e9⟩ := hT j hj
    have q5 : ¬ nI n < upd b5 a (nI s) j ↔ (j = a → s ≤ n) := by
      by_cases z : j = a
      · rw [z, pk_us, nI_ltI (by omega) (by omega)]
        omega
      · rw [pk_un z, e5]
        exact ⟨fun _ y => absurd y z, fun _ => nI_pos (by omega)⟩
    have q6 : ¬ upd b6 a (nI f) j < nI n ↔ (j = a → n ≤ f) := by
      by_cases z : j = a
      · rw [z, pk_us, nI_ltI (by omega) (by omega)]
        omega
      · rw [pk_un z, e6]
        exact ⟨fun _ y => absurd y z, fun _ => nI_nlt (a := 100) (b := n) hn (by decide)⟩
    have q8 : ¬ upd b8 o (nI k) j ≤ nI n ↔ (j = o → n < k) := by
      by_cases z : j = o
      · rw [z, pk_us, nI_leI (by omega) (by omega)]
        omega
      · rw [pk_un z, e8]
        exact ⟨fun _ y => absurd y z, fun _ => nI_ge (a := n) (b := 1000) (by omega) (by decide)⟩
    unfold zc_good
    rw [q5, q6, q8]
    constructor
    · rintro ⟨_, _, h1, h2, h3⟩
      exact ⟨fun z => ⟨h1 z, h2 z⟩, h3⟩
    · rintro ⟨h1, h2⟩
      exact ⟨zc_n1 (by omega), e9, fun z => (h1 z).1, fun z => (h1 z).2, h2⟩
  rw [zc_TrG hS hN he]
  constructor
  · rintro ⟨_, h⟩
    obtain ⟨h1, h2⟩ := ((G a (by omega)).mp (h a hae)).1 rfl
    exact ⟨h1, h2, ((G o (by omega)).mp (h o hoe)).2 rfl⟩
  · rintro ⟨h1, h2, h3⟩
    exact ⟨by omega, fun j hj => (G j (by omega)).mpr ⟨fun _ => ⟨h1, h2⟩, fun _ => h3⟩⟩
/-! a may not sign any more; o revoked at 100 -/
theorem zc_L6 {a o c : Nat} (hm : m ≤ 6) (hS : zc_dS m g) (hT : zc_dT m b5 b6 b8 b9) (hN : zc_nm m b3) (ha : a < m) (hc : c < m) :
    zc_Tr 1 50 (-1) b3 b5 b6 (upd g (5 * a) 0) (upd b8 o 100) b9 c ↔ c < a + 1 := by
  have g0 : ∀ i, i < m → i ≠ a → upd g (5 * a) 0 (5 * i) = 1 := fun i hi h => by rw [pk_un (by omega)]; exact (hS i hi).1
  have g1 : ∀ i, i < m → upd g (5 * a) 0 (5 * i + 1) = 4 := fun i hi => by rw [pk_un (by omega)]; exact (hS i hi).2.1
  have g2 : ∀ i, i < m → upd g (5 * a) 0 (5 * i + 2) = 255 := fun i hi => by rw [pk_un (by omega)]; exact (hS i hi).2.2.1
  have g3 : ∀ i, i < m → upd g (5 * a) 0 (5 * i + 3) = 0 := fun i hi => by rw [pk_un (by omega)]; exact (hS i hi).2.2.2.1
  have g4 : ∀ i, i < m → upd g (5 * a) 0 (5 * i + 4) = 15 := fun i hi => by rw [pk_un (by omega)]; exact (hS i hi).2.2.2.2
  have ga : upd g (5 * a) 0 (5 * a) = 0 := pk_us
  have gG : ∀ j, j < m → zc_good 50 (-1) b5 b6 (upd b8 o 100) b9 j := by
    intro j hj
    obtain ⟨e5, e6, e8, e9⟩ := hT j hj
    have q8 : ¬ upd b8 o 100 j ≤ 50 := by
      by_cases z : j = o
      · rw [z, pk_us]
        decide
      · rw [pk_un z, e8]
        decide
    unfold zc_good
    rw [e5, e6, e9]
    exact ⟨zc_n1 (by omega), rfl, by decide, by decide, q8⟩
  constructor
  · rintro ⟨_, h2, _⟩
    refine Nat.lt_succ_of_le (Nat.not_lt.mp fun z => ?_)
    exact (h2 a z).1 ga
  · intro h
    exact ⟨by omega, fun j hj => zc_mkE (g0 j (by omega) (by omega)) (gG j (by omega)) (zc_P15 (fun i hi => g4 i (by omega))) (by decide) (zc_M4 (fun i hi => g1 i (by omega))) (by decide) (zc_O255 (fun i hi => ⟨g2 i (by omega), g3 i (by omega)⟩)) (zc_op1 (hN j (by omega))),
      zc_mkN (gG c hc) (zc_P15 (fun i hi => g4 i (by omega))) (by decide) (zc_O255 (fun i hi => ⟨g2 i (by omega), g3 i (by omega)⟩)) (zc_op1 (hN c hc))⟩
theorem zc_L7 {c : Nat} (h : ¬ b9 0 = 0) : ¬ zc_Tr 1 t w b3 b5 b6 g b8 b9 c := by
  rintro ⟨h1, h2, h3⟩
  by_cases e : c = 0
  · subst e
    exact h h3.1.2.1
  · exact h (h2 0 (by omega)).2.1.2.1
end LAWS
end
section
/-! ===== the law, from its end ===== -/
def zc_name (x : Int32) (i : Nat) : Int32 := ((nI i * (1 + (2 * (x &&& 3)))) + ((x >>> ((2 : Int32) &&& 31)) &&& 7)) &&& 7
def zc_key (y : Int32) (i : Nat) : Int32 := (y >>> ((3 * nI i) &&& 31)) &&& 7
/-- the certificates and the anchor that the law has made -/
def zc_B (m : Nat) (x y : Int32) (a1 a2 a3 a4 a5 a6 a7 a8 a9 a10 : Nat → Int32) : Prop :=
  zc_net m 1 a1 a2 a3 a4 a10 ∧ zc_dS m a7 ∧ zc_dT m a5 a6 a8 a9 ∧ zc_nm m a3 ∧ (∀ c, c < m → a3 c = zc_name x (c + 1)) ∧ (∀ c, c < m → a4 c = zc_key y (c + 1)) ∧
  (∀ c j, c < m → j < m → j ≠ c → ¬ a3 j = a3 c) ∧ a10 0 = -1 ∧ (1 < m → zc_net m 2 a1 a2 a3 a4 (upd a10 0 (10 * zc_name x 1 + zc_key y 1)))
theorem zc_uv {f : Nat → Int32} {k : Nat} {x y : Int32} : upd (upd f k x) k y = upd f k y := by
  funext j
  by_cases e : j = k
  · subst e
    rw [pk_us, pk_us]
  · rw [pk_un e, pk_un e, pk_un e]
theorem zc_u4 {f : Nat → Int32} {k l : Nat} {x y z w : Int32} (hk : f k = z) (hl : f l = w) : upd (upd (upd (upd f k x) l y) k z) l w = f := by
  funext j
  by_cases e : j = l
  · rw [e, pk_us, hl]
  · rw [pk_un e]
    by_cases e2 : j = k
    · rw [e2, pk_us, hk]
    · rw [pk_un e2, pk_un e, pk_un e2]
section TAIL
variable {f0 f1 f2 f3 f4 f5 : Int32} {a1 a2 a3 a4 a5 a6 a7 a8 a9 a10 a11 a12 a13 a14 a15 a16 a17 : Nat → Int32} {post : Int32 → St0 → Prop} {mc ms kc ks m a o e : Nat} {x y z0 z1 : Int32}
theorem zc_1068 (hB : zc_B m x y a1 a2 a3 a4 a5 a6 a7 a8 a9 a10) (hm : m ≤ 6) (ha : a < m) (hp : post 1 ()) (hz : z1 = z0) :
    wL_lawOf_1068 post mc ms (nI a) z0 z1 kc ks (nI m) f1 f2 f3 f4 f5 a1 a2 a3 a4 a5 a6 (upd a7 (5 * a) 0) (upd a8 o 100) a9 a10 a11 a12 a13 a14 a15 a16 a17 := by
  obtain ⟨hn, hS, hT, hN, h3, h4, hu, _⟩ := hB
  unfold wL_lawOf_1068
  refine br_t hz ?_
  refine zc_trusted hn (by omega) ha (by decide) (by decide) (fun r h1 _ g1 g2 g3 g4 g5 c11 c12 c13 c14 c15 c16 c17 => ?_)
  refine br_t (h1 ((zc_L6 hm hS hT hN ha ha).mpr (by omega))) ?_
  refine zc_count (q := a + 1) hn (by omega) (by omega) (by decide) (by decide) (fun c hc => zc_L6 hm hS hT hN ha hc) (by omega) (fun g1 g2 g3 g4 g5 c11 c12 c13 c14 c15 c16 c17 => ?_)
  refine br_t (nI_1 a).symm ?_
  refine zc_hold (c := 0) (by omega) (by omega) (hT 0 (by omega)).2.2.2 (br_t rfl ?_)
  refine zc_count (q := 0) hn (by omega) (by omega) (by decide) (by decide) (fun c hc => ⟨fun z => absurd z (zc_L7 (by rw [pk_us]; decide)), fun z => absurd z (by omega)⟩) (by omega) (fun g1 g2 g3 g4 g5 c11 c12 c13 c14 c15 c16 c17 => ?_)
  exact br_t rfl hp
theorem zc_1008 {s f k : Nat} (hB : zc_B m x y a1 a2 a3 a4 a5 a6 a7 a8 a9 a10) (hm : m ≤ 6) (ha : a < m) (ho : o < m) (he : m = e + 1) (hp : post 1 ()) (hz : z1 = z0) :
    wL_lawOf_1008 post mc ms (nI e) (nI a) (nI o) z0 z1 kc ks (nI m) f1 f2 f3 f4 f5 a1 a2 a3 a4 (upd a5 a (nI s)) (upd a6 a (nI f)) a7 (upd a8 o (nI k)) a9 a10 a11 a12 a13 a14 a15 a16 a17 := by
  obtain ⟨hn, hS, hT, hN, h3, h4, hu, _⟩ := id hB
  unfold wL_lawOf_1008
  refine br_t hz ?_
  refine zc_times (by omega) ha (by decide) (by decide) (by decide) (by decide) (by decide) ?_
  rw [zc_uu (hT a ha).1, zc_uu (hT a ha).2.1]
  refine zc_revoke (by omega) ho (by decide) (by decide) (fun r => ?_)
  rw [zc_uv]
  refine zc_set 0 1 (by omega) ha (Or.inl ⟨rfl, rfl⟩) (by decide) (by decide) ?_
  refine br_t (hS a ha).1 ?_
  refine zc_trusted hn (by omega) (show e < m by omega) (by decide) (by decide) (fun r h1 h0 g1 g2 g3 g4 g5 c11 c12 c13 c14 c15 c16 c17 => ?_)
  have L := zc_L6 (o := o) hm hS hT hN ha (show e < m by omega)
  refine pk_eq a e (fun z => ?_) (fun z => ?_)
  · exact zc_1068 hB hm ha hp (h1 (L.mpr (by omega)))
  · exact zc_1068 hB hm ha hp (h0 (fun q => absurd (L.mp q) (by omega)))
theorem zc_984 {s f k : Nat} {l : Int32} (hB : zc_B m x y a1 a2 a3 a4 a5 a6 a7 a8 a9 a10) (hm : m ≤ 6) (ha : a < m) (ho : o < m) (he : m = e + 1) (hs : s ≤ f) (hf : f ≤ 100) (hk : k ≤ 100) (hl : ∀ j, j ≤ 100 → (l < nI j ↔ ¬ (j ≤ f ∧ j < k))) (hp : post 1 ()) (hz : z1 = z0) :
    wL_lawOf_984 post mc ms (nI e) (nI a) (nI o) (nI f) l z0 z1 kc ks (nI m) f1 f2 f3 f4 f5 a1 a2 a3 a4 (upd a5 a (nI s)) (upd a6 a (nI f)) a7 (upd a8 o (nI k)) a9 a10 a11 a12 a13 a14 a15 a16 a17 := by
  obtain ⟨hn, hS, hT, hN, h3, h4, hu, _⟩ := id hB
  unfold wL_lawOf_984
  refine br_t hz ?_
  refine zc_trusted hn (by omega) (show e < m by omega) (nI_pos (by omega)) (nI_nlt (a := 100) (b := f) hf (by decide)) (fun r h1 h0 g1 g2 g3 g4 g5 c11 c12 c13 c14 c15 c16 c17 => ?_)
  have L := zc_L5 (o := o) (a := a) (e := e) (s := s) (f := f) (k := k) (n := f) (by omega) hS hT hN (by omega) (by omega) (by omega) (by omega) (by omega) hf hk hf
  refine br_c (fun z => ?_) (fun z => ?_)
  · have z' := (hl f hf).mp z
    exact zc_1008 hB hm ha ho he hp (h0 (fun q => z' ⟨by omega, (L.mp q).2.2⟩))
  · have z' : f ≤ f ∧ f < k := Decidable.not_not.mp (fun q => z ((hl f hf).mpr q))
    exact zc_1008 hB hm ha ho he hp (h1 (L.mpr ⟨by omega, by omega, z'.2⟩))
theorem zc_960 {s f k : Nat} {l : Int32} (hB : zc_B m x y a1 a2 a3 a4 a5 a6 a7 a8 a9 a10) (hm : m ≤ 6) (ha : a < m) (ho : o < m) (he : m = e + 1) (hs : s ≤ f) (hf : f ≤ 100) (hk : k ≤ 100) (hl : ∀ j, j ≤ 100 → (l < nI j ↔ ¬ (j ≤ f ∧ j < k))) (hp : post 1 ()) (hz : z1 = z0) :
    wL_lawOf_960 post mc ms (nI e) (nI a) (nI o) (nI s) (nI f) l z0 z1 kc ks (nI m) f1 f2 f3 f4 f5 a1 a2 a3 a4 (upd a5 a (nI s)) (upd a6 a (nI f)) a7 (upd a8 o (nI k)) a9 a10 a11 a12 a13 a14 a15 a16 a17 := by
  obtain ⟨hn, hS, hT, hN, h3, h4, hu, _⟩ := id hB
  unfold wL_lawOf_960
  refine br_t hz ?_
  refine zc_trusted hn (by omega) (show e < m by omega) (nI_pos (by omega)) (nI_nlt (a := 100) (b := s) (by omega) (by decide)) (fun r h1 h0 g1 g2 g3 g4 g5 c11 c12 c13 c14 c15 c16 c17 => ?_)
  have L := zc_L5 (o := o) (a := a) (e := e) (s := s) (f := f) (k := k) (n := s) (by omega) hS hT hN (by omega) (by omega) (by omega) (by omega) (by omega) hf hk (by omega)
  refine br_c (fun z => ?_) (fun z => ?_)
  · have z' := (hl s (by omega)).mp z
    exact zc_984 hB hm ha ho he hs hf hk hl hp (h0 (fun q => z' ⟨hs, (L.mp q).2.2⟩))
  · have z' : s ≤ f ∧ s < k := Decidable.not_not.mp (fun q => z ((hl s (by omega)).mpr q))
    exact zc_984 hB hm ha ho he hs hf hk hl hp (h1 (L.mpr ⟨by omega, hs, z'.2⟩))
theorem zc_935 {s f k : Nat} {l : Int32} (hB : zc_B m x y a1 a2 a3 a4 a5 a6 a7 a8 a9 a10) (hm : m ≤ 6) (ha : a < m) (ho : o < m) (he : m = e + 1) (hs : s ≤ f) (hf : f < 100) (hk : k ≤ 100) (hl : ∀ j, j ≤ 100 → (l < nI j ↔ ¬ (j ≤ f ∧ j < k))) (hl2 : 0 < k → l = nI (min f (k - 1))) (hp : post 1 ()) :
    wL_lawOf_935 post mc ms (nI e) (nI a) (nI o) (nI s) (nI f) l kc ks (nI m) f1 f2 f3 f4 f5 a1 a2 a3 a4 (upd a5 a (nI s)) (upd a6 a (nI f)) a7 (upd a8 o (nI k)) a9 a10 a11 a12 a13 a14 a15 a16 a17 := by
  obtain ⟨hn, hS, hT, hN, h3, h4, hu, _⟩ := id hB
  have L : ∀ n, n ≤ 100 → (zc_Tr 1 (nI n) (-1) a3 (upd a5 a (nI s)) (upd a6 a (nI f)) a7 (upd a8 o (nI k)) a9 e ↔ s ≤ n ∧ n ≤ f ∧ n < k) :=
    fun n hn => zc_L5 (by omega) hS hT hN (by omega) (by omega) (by omega) (by omega) (by omega) (by omega) hk hn
  unfold wL_lawOf_935
  refine zc_until (s := s) (e := max s (min (f + 1) k)) hn (by omega) (show e < m by omega) (by omega) (by omega) (fun j h1 h2 => (L j (by omega)).mpr (by omega)) (fun q => absurd ((L _ (by omega)).mp q) (by omega)) (fun g1 g2 g3 g4 g5 c11 c12 c13 c14 c15 c16 c17 => ?_)
  refine br_c (fun z => ?_) (fun z => ?_)
  · have z' := (hl s (by omega)).mp z
    refine zc_960 hB hm ha ho he hs (by omega) hk hl hp ?_
    rw [if_pos (by omega)]
  · have z' : s ≤ f ∧ s < k := Decidable.not_not.mp (fun q => z ((hl s (by omega)).mpr q))
    refine zc_960 hB hm ha ho he hs (by omega) hk hl hp ?_
    rw [if_neg (by omega), hl2 (by omega), show max s (min (f + 1) k) - 1 = min f (k - 1) by omega]
end TAIL
end
section
/-! ===== the law: policies, names, limits ===== -/
theorem zc_sub1 {k : Nat} (hk : k ≤ 100) : (nI k - 1).toInt = (k : Int) - 1 := pk_sub_toInt (a := k) (b := 1) (by omega) (by decide)
theorem zc_last1 {f k : Nat} (hf : f ≤ 100) (hk : k ≤ 100) : nI f ≤ nI k - 1 ↔ f < k := by
  rw [Int32.le_iff_toInt_le, zc_sub1 hk, nI_toInt (by omega)]
  omega
theorem zc_last0 {j k : Nat} (hj : j ≤ 100) (hk : k ≤ 100) : nI k - 1 < nI j ↔ k ≤ j := by
  rw [Int32.lt_iff_toInt_lt, zc_sub1 hk, nI_toInt (by omega)]
  omega
theorem zc_b01 (v : Int32) : ¬ v &&& 1 = 0 ↔ v &&& 1 = 1 := by
  rw [pk_and v 1 (m := 1) (by decide)]
  have h : v.toBitVec.toNat % 2 ^ 1 = 0 ∨ v.toBitVec.toNat % 2 ^ 1 = 1 := by omega
  rcases h with h | h <;> rw [h] <;> decide
theorem zc_mm (z k : Int32) : k &&& (z &&& k) = z &&& k := by rw [Int32.and_comm, Int32.and_assoc, Int32.and_self]
theorem zc_m255 (z : Int32) : ¬ z &&& 255 < 0 ∧ z &&& 255 ≤ 255 := by
  obtain ⟨j, hj, e⟩ := pk_andE z 8 (m := 255) (by decide)
  rw [e]
  exact ⟨nI_pos (by omega), nI_le (a := j) (b := 255) (by omega) (by decide)⟩
theorem zc_m15 (z : Int32) : ¬ z &&& 15 < 0 ∧ z &&& 15 ≤ 15 := by
  obtain ⟨j, hj, e⟩ := pk_andE z 4 (m := 15) (by decide)
  rw [e]
  exact ⟨nI_pos (by omega), nI_le (a := j) (b := 15) (by omega) (by decide)⟩
theorem zc_g15 {m a o e : Nat} {g : Nat → Int32} {p q : Int32} (hS : zc_dS m g) (he : e < m) (hp : 15 &&& p = p) (hq : 15 &&& q = q) : 15 &&& upd (upd g (5 * o + 4) p) (5 * a + 4) q (5 * e + 4) = upd (upd g (5 * o + 4) p) (5 * a + 4) q (5 * e + 4) := by
  by_cases z : 5 * e + 4 = 5 * a + 4
  · rw [z, pk_us, hq]
  · rw [pk_un z]
    by_cases z2 : 5 * e + 4 = 5 * o + 4
    · rw [z2, pk_us, hp]
    · rw [pk_un z2, (hS e he).2.2.2.2]
      decide
section MID
variable {f0 f1 f2 f3 f4 f5 : Int32} {a1 a2 a3 a4 a5 a6 a7 a8 a9 a10 a11 a12 a13 a14 a15 a16 a17 : Nat → Int32} {post : Int32 → St0 → Prop} {mc ms kc ks m a o e : Nat} {x y n w z0 z1 : Int32}
theorem zc_834 {p q : Int32} (hB : zc_B m x y a1 a2 a3 a4 a5 a6 a7 a8 a9 a10) (hm : m ≤ 6) (ha : a < m) (ho : o < m) (he : m = e + 1) (hp : post 1 ()) (hz : z1 = z0) :
    wL_lawOf_834 post mc ms w (nI e) (nI a) (nI o) z0 z1 kc ks (nI m) f1 f2 f3 f4 f5 a1 a2 a3 a4 a5 a6 (upd (upd a7 (5 * o + 4) p) (5 * a + 4) q) a8 a9 a10 a11 a12 a13 a14 a15 a16 a17 := by
  obtain ⟨hn, hS, hT, hN, h3, h4, hu, _⟩ := id hB
  unfold wL_lawOf_834
  refine br_t hz ?_
  refine zc_set 4 15 (by omega) ho (Or.inr (Or.inr (Or.inl ⟨rfl, rfl⟩))) (by decide) (by decide) ?_
  refine zc_set 4 15 (by omega) ha (Or.inr (Or.inr (Or.inl ⟨rfl, rfl⟩))) (by decide) (by decide) ?_
  rw [zc_u4 (hS o ho).2.2.2.2 (hS a ha).2.2.2.2]
  obtain ⟨s, hs, es⟩ := pk_andE (w >>> ((9 : Int32) &&& 31)) 6 (m := 63) (by decide)
  obtain ⟨d, hd, ed⟩ := pk_andE (w >>> ((15 : Int32) &&& 31)) 5 (m := 31) (by decide)
  obtain ⟨c, hc, ec⟩ := pk_andE (w >>> ((20 : Int32) &&& 31)) 8 (m := 255) (by decide)
  have hkk : c % 101 < 101 := Nat.mod_lt _ (by decide)
  refine nm_r es (nm_r (e' := nI (s + d)) (by rw [ed]; exact nI_add s d) ⟨by decide, nm_r (e' := nI (c % 101)) (by rw [ec]; exact pk_rem (d := 101) (by omega) (by decide) (by decide)) ?_⟩)
  generalize c % 101 = k at hkk
  refine zc_times (by omega) ha (nI_pos (by omega)) (nI_nlt (a := 100) (b := s) (by omega) (by decide)) (nI_pos (by omega)) (nI_nlt (a := 100) (b := s + d) (by omega) (by decide)) (nI_le (by omega) (by omega)) ?_
  refine zc_revoke (by omega) ho (nI_pos (by omega)) (nI_nlt (a := 100) (b := k) (by omega) (by decide)) (fun r => ?_)
  refine br_c (fun z => ?_) (fun z => ?_)
  · have z' := (zc_last1 (by omega) (by omega)).mp z
    refine zc_935 hB hm ha ho he (by omega) (by omega) (by omega) (fun j hj => ?_) (fun _ => ?_) hp
    · rw [nI_ltI (by omega) (by omega)]
      omega
    · rw [show min (s + d) (k - 1) = s + d by omega]
  · have z' : ¬ s + d < k := fun q => z ((zc_last1 (by omega) (by omega)).mpr q)
    refine zc_935 hB hm ha ho he (by omega) (by omega) (by omega) (fun j hj => ?_) (fun hk0 => ?_) hp
    · rw [zc_last0 hj (by omega)]
      omega
    · obtain ⟨i, hi⟩ : ∃ i, k = i + 1 := ⟨k - 1, by omega⟩
      rw [show min (s + d) (k - 1) = i by omega, hi]
      exact nI_pred i
theorem zc_793 {p q v : Int32} (hB : zc_B m x y a1 a2 a3 a4 a5 a6 a7 a8 a9 a10) (hm : m ≤ 6) (ha : a < m) (ho : o < m) (he : m = e + 1) (hp15 : 15 &&& p = p) (hq15 : 15 &&& q = q) (hv : v = if o = a then q else p &&& q) (hp : post 1 ()) (hz : z1 = z0) :
    wL_lawOf_793 post mc ms x y n w (nI m) (nI e) (nI a) v (nI o) z0 z1 kc ks (nI m) f1 f2 f3 f4 f5 a1 a2 a3 a4 a5 a6 (upd (upd a7 (5 * o + 4) p) (5 * a + 4) q) a8 a9 a10 a11 a12 a13 a14 a15 a16 a17 := by
  obtain ⟨hn, hS, hT, hN, h3, h4, hu, _⟩ := id hB
  unfold wL_lawOf_793
  refine br_t hz ?_
  unfold wpL_name
  obtain ⟨j, hj, ej⟩ := hN e (by omega)
  have en : zc_name x m = a3 e := by rw [he]; exact (h3 e (by omega)).symm
  have ek : zc_key y m = a4 e := by rw [he]; exact (h4 e (by omega)).symm
  obtain ⟨i, hi, ei⟩ := pk_andE n 2 (m := 3) (by decide)
  show wpX_keysOf _ _ (zc_name x m) 0 (n &&& 3)
  refine zc_keysOf (c := e) (p := j) hn (by omega) (by omega) hj (by rw [en]; exact ej) (by decide) (by decide) (by rw [ei]; exact nI_pos (by omega)) (by rw [ei]; exact nI_le (a := i) (b := 3) (by omega) (by decide)) (zc_g15 hS (by omega) hp15 hq15) en.symm (fun j h1 h2 => by rw [en]; exact hu e j (by omega) h1 h2) (fun v' hv1 hv0 => ?_)
  obtain ⟨L1, L2⟩ := zc_L4 (t := 0) (hm := show m ≤ 12 by omega) hS hT hN (show a ≤ e by omega) (show o ≤ e by omega) (by omega) (by omega) hp15 hq15 hv (by decide) (by decide)
  have ev : v' = v := by
    by_cases z : v = 0
    · rw [hv0 (fun T => L2.mp T z), z]
    · rw [hv1 (L2.mpr z), L1]
  rw [ev]
  refine br_c (fun z g1 g2 g3 g4 g5 c11 c12 c13 c14 c15 c16 c17 => ?_) (fun z g1 g2 g3 g4 g5 c11 c12 c13 c14 c15 c16 c17 => ?_)
  · refine br_f ((zc_b01 _).mpr z) ?_
    unfold wpL_key
    refine zc_834 hB hm ha ho he hp ?_
    rw [← ek]
    rfl
  · refine br_t (Decidable.not_not.mp (fun q => z ((zc_b01 _).mp q))) ?_
    exact zc_834 hB hm ha ho he hp rfl
theorem zc_758 {p q v : Int32} (hB : zc_B m x y a1 a2 a3 a4 a5 a6 a7 a8 a9 a10) (hm : m ≤ 6) (ha : a < m) (ho : o < m) (he : m = e + 1) (hp15 : 15 &&& p = p) (hq15 : 15 &&& q = q) (hv : v = if o = a then q else p &&& q) (hp : post 1 ()) :
    wL_lawOf_758 post mc ms x y n w (nI m) (nI e) (nI a) (nI o) v kc ks (nI m) f1 f2 f3 f4 f5 a1 a2 a3 a4 a5 a6 (upd (upd a7 (5 * o + 4) p) (5 * a + 4) q) a8 a9 a10 a11 a12 a13 a14 a15 a16 a17 := by
  obtain ⟨hn, hS, hT, hN, h3, h4, hu, _⟩ := id hB
  obtain ⟨L1, L2⟩ := zc_L4 (t := 100) (hm := show m ≤ 12 by omega) hS hT hN (show a ≤ e by omega) (show o ≤ e by omega) (by omega) (by omega) hp15 hq15 hv (by decide) (by decide)
  unfold wL_lawOf_758
  refine zc_policies hn (by omega) (show e < m by omega) (by decide) (by decide) (zc_g15 hS (by omega) hp15 hq15) (fun v' hv1 hv0 g1 g2 g3 g4 g5 c11 c12 c13 c14 c15 c16 c17 => ?_)
  have ev : v' = v := by
    by_cases z : v = 0
    · rw [hv0 (fun T => L2.mp T z), z]
    · rw [hv1 (L2.mpr z), L1]
  refine br_t ev ?_
  refine zc_trusted hn (by omega) (show e < m by omega) (by decide) (by decide) (fun r h1 h0 g1 g2 g3 g4 g5 c11 c12 c13 c14 c15 c16 c17 => ?_)
  refine br_c (fun z => ?_) (fun z => ?_)
  · exact zc_793 hB hm ha ho he hp15 hq15 hv hp (h0 (fun T => L2.mp T z))
  · exact zc_793 hB hm ha ho he hp15 hq15 hv hp (h1 (L2.mpr z))
theorem zc_720 {i k v : Int32} (hB : zc_B m x y a1 a2 a3 a4 a5 a6 a7 a8 a9 a10) (hm : m ≤ 6) (ha : a < m) (ho : o < m) (he : m = e + 1) (hv : o ≠ a → v = (i &&& 15) &&& (k &&& 15)) (hp : post 1 ()) :
    wL_lawOf_720 post mc ms x y n w (nI m) (nI e) (nI a) (i &&& 15) (k &&& 15) v (nI o) kc ks (nI m) f1 f2 f3 f4 f5 a1 a2 a3 a4 a5 a6 a7 a8 a9 a10 a11 a12 a13 a14 a15 a16 a17 := by
  unfold wL_lawOf_720
  refine zc_set 4 15 (by omega) ho (Or.inr (Or.inr (Or.inl ⟨rfl, rfl⟩))) (zc_m15 i).1 (zc_m15 i).2 ?_
  refine zc_set 4 15 (by omega) ha (Or.inr (Or.inr (Or.inl ⟨rfl, rfl⟩))) (zc_m15 k).1 (zc_m15 k).2 ?_
  refine pk_eq o a (fun z => ?_) (fun z => ?_)
  · exact zc_758 hB hm ha ho he (zc_mm i 15) (zc_mm k 15) (by rw [if_pos z]) hp
  · exact zc_758 hB hm ha ho he (zc_mm i 15) (zc_mm k 15) (by rw [if_neg z]; exact hv z) hp
theorem zc_700 {i k v : Int32} (hB : zc_B m x y a1 a2 a3 a4 a5 a6 a7 a8 a9 a10) (hm : m ≤ 6) (ha : a < m) (he : m = e + 1) (hv : m ≠ 1 → v = (i &&& 15) &&& (k &&& 15)) (hp : post 1 ()) :
    wL_lawOf_700 post mc ms x y n w (nI m) (nI e) (nI a) (i &&& 15) (k &&& 15) v kc ks (nI m) f1 f2 f3 f4 f5 a1 a2 a3 a4 a5 a6 a7 a8 a9 a10 a11 a12 a13 a14 a15 a16 a17 := by
  unfold wL_lawOf_700
  refine pk_eq m 1 (fun z => ?_) (fun z => ⟨nI_ne0 (by omega) (by omega), ?_⟩)
  · exact zc_720 hB hm ha ha he (fun q => absurd rfl q) hp
  · rw [nI_1, pk_rem (show a + 1 < 2 ^ 31 by omega) (show 0 < m by omega) (by omega)]
    exact zc_720 hB hm ha (Nat.mod_lt _ (by omega)) he (fun _ => hv z) hp
theorem zc_621 {al ba : Int32} (hB : zc_B m x y a1 a2 a3 a4 a5 a6 a7 a8 a9 a10) (hm : m ≤ 6) (ha : a < m) (he : m = e + 1) (hp : post 1 ()) (hz : z1 = z0) :
    wL_lawOf_621 post mc ms x y n w (nI m) (nI e) (nI a) al ba z0 z1 kc ks (nI m) f1 f2 f3 f4 f5 a1 a2 a3 a4 a5 a6 (upd (upd a7 (5 * a + 2) al) (5 * a + 3) ba) a8 a9 a10 a11 a12 a13 a14 a15 a16 a17 := by
  obtain ⟨hn, hS, hT, hN, h3, h4, hu, _⟩ := id hB
  unfold wL_lawOf_621
  refine br_t hz ?_
  refine zc_set 2 255 (by omega) ha (Or.inr (Or.inr (Or.inr ⟨Or.inl rfl, rfl⟩))) (by decide) (by decide) ?_
  refine br_t (by rw [pk_un (by omega), pk_us]) ?_
  refine zc_set 3 255 (by omega) ha (Or.inr (Or.inr (Or.inr ⟨Or.inr rfl, rfl⟩))) (by decide) (by decide) ?_
  refine br_t (by rw [pk_un (by omega), pk_us]) ?_
  rw [zc_u4 (hS a ha).2.2.1 (hS a ha).2.2.2.1]
  refine nm_e (nm_e ?_)
  refine pk_eq m 1 (fun z => br_c (fun _ => ?_) (fun _ => ?_)) (fun z => ?_)
  · exact zc_700 hB hm ha he (fun q => absurd z q) hp
  · exact zc_700 hB hm ha he (fun q => absurd z q) hp
  · exact zc_700 hB hm ha he (fun _ => rfl) hp
theorem zc_524 {al ba : Int32} (hB : zc_B m x y a1 a2 a3 a4 a5 a6 a7 a8 a9 a10) (hm : m ≤ 6) (ha : a < m) (he : m = e + 1) (hal : 255 &&& al = al) (hal0 : ¬ al < 0) (hal1 : al ≤ 255) (hba0 : ¬ ba < 0) (hba1 : ba ≤ 255) (hp : post 1 ()) :
    ∃ n', wL_lawOf_524 post mc ms x y n w (nI m) (nI e) (nI a) al ba kc ks (nI m) f1 f2 f3 f4 f5 a1 a2 a3 a4 a5 a6 a7 a8 a9 a10 a11 a12 a13 a14 a15 a16 a17 n' 1 (nI (a + 1)) := by
  obtain ⟨hn, hS, hT, hN, h3, h4, hu, _⟩ := id hB
  refine pk_loop (σ := Int32) (fun n' i s => wL_lawOf_524 post mc ms x y n w (nI m) (nI e) (nI a) al ba kc ks (nI m) f1 f2 f3 f4 f5 a1 a2 a3 a4 a5 a6 a7 a8 a9 a10 a11 a12 a13 a14 a15 a16 a17 n' s (nI i))
    (fun i s => a < i ∧ ((s = 1 ∧ ∀ j, a < j → j < i → zc_op a3 (al &&& (ba ^^^ (-1))) j) ∨ (s = 0 ∧ ∃ j, a < j ∧ j < i ∧ ¬ zc_op a3 (al &&& (ba ^^^ (-1))) j))) m (a + 1) 1 (by omega) ⟨by omega, Or.inl ⟨rfl, fun j h1 h2 => absurd h2 (by omega)⟩⟩ ?_ ?_
  · rintro n' s ⟨_, hI⟩
    refine pk_le m m (fun _ => ?_) (fun z => absurd z (by omega))
    refine zc_set 2 255 (by omega) ha (Or.inr (Or.inr (Or.inr ⟨Or.inl rfl, rfl⟩))) hal0 hal1 ?_
    refine br_t (hS a ha).2.2.1 ?_
    refine zc_set 3 255 (by omega) ha (Or.inr (Or.inr (Or.inr ⟨Or.inr rfl, rfl⟩))) hba0 hba1 ?_
    refine br_t (by rw [pk_un (by omega)]; exact (hS a ha).2.2.2.1) ?_
    refine zc_trusted hn (by omega) (show e < m by omega) (by decide) (by decide) (fun r h1 h0 g1 g2 g3 g4 g5 c11 c12 c13 c14 c15 c16 c17 => ?_)
    have L := zc_L3 (a := a) (e := e) (al := al) (ba := ba) (t := 5) (hm := show m ≤ 12 by omega) hS hT hN (by omega) (by omega) (by omega) hal (by decide) (by decide)
    rcases hI with ⟨es, hj⟩ | ⟨es, j, j1, j2, j3⟩
    · refine br_f (by rw [es]; decide) ?_
      exact zc_621 hB hm ha he hp (h1 (L.mpr (fun j q1 q2 => hj j q1 (by omega))))
    · refine br_t es ?_
      exact zc_621 hB hm ha he hp (h0 (fun T => j3 (L.mp T j j1 (by omega))))
  · rintro n' i s hi ⟨hai, hI⟩ hw
    refine pk_le m i (fun z => absurd z (by omega)) (fun _ => ?_)
    unfold wpL_name
    rw [nI_1 i]
    have en : ((nI (i + 1) * (1 + (2 * (x &&& 3)))) + ((x >>> ((2 : Int32) &&& 31)) &&& 7)) &&& 7 = a3 i := (h3 i hi).symm
    rw [en]
    rcases hI with ⟨es, hj⟩ | ⟨es, j, j1, j2, j3⟩
    · refine br_f (by rw [es]; decide) (br_c (fun z => nm_e (hw 0 ⟨by omega, ?_⟩)) (fun z => nm_e (hw 1 ⟨by omega, Or.inl ⟨rfl, fun j q1 q2 => ?_⟩⟩)))
      · refine Or.inr ⟨rfl, i, hai, by omega, fun q => ?_⟩
        exact (zc_b01 _).mpr q z
      · by_cases ej : j = i
        · rw [ej]
          exact (zc_b01 _).mp z
        · exact hj j q1 (by omega)
    · exact br_t es (nm_e (hw 0 ⟨by omega, Or.inr ⟨rfl, j, j1, by omega, j3⟩⟩))
theorem zc_455 {l : Nat} (hB : zc_B m x y a1 a2 a3 a4 a5 a6 a7 a8 a9 a10) (hm : m ≤ 6) (ha : a < m) (he : m = e + 1) (hp : post 1 ()) (hz : z1 = z0) :
    wL_lawOf_455 post mc ms x y n w (nI m) (nI e) (nI a) (nI l) z0 z1 kc ks (nI m) f1 f2 f3 f4 f5 a1 a2 a3 a4 a5 a6 (upd a7 (5 * a + 1) (nI l)) a8 a9 a10 a11 a12 a13 a14 a15 a16 a17 := by
  obtain ⟨hn, hS, hT, hN, h3, h4, hu, _⟩ := id hB
  unfold wL_lawOf_455
  refine br_t hz ?_
  refine zc_set 1 4 (by omega) ha (Or.inr (Or.inl ⟨rfl, rfl⟩)) (by decide) (by decide) ?_
  refine br_t pk_us ?_
  rw [zc_uu (hS a ha).2.1]
  refine zc_trusted hn (by omega) (show e < m by omega) (by decide) (by decide) (fun r h1 h0 g1 g2 g3 g4 g5 c11 c12 c13 c14 c15 c16 c17 => ?_)
  refine br_t (h1 ((zc_L1m (by omega) hS hT hN (by omega) (by decide) (by decide)).mpr (by omega))) (nm_e (br_c (fun _ => nm_r (nI_1 a) ?_) (fun _ => nm_e (nm_r (nI_1 a) ?_))))
  · exact zc_524 hB hm ha he (zc_mm _ 255) (zc_m255 _).1 (zc_m255 _).2 (by decide) (by decide) hp
  · exact zc_524 hB hm ha he (zc_mm _ 255) (zc_m255 _).1 (zc_m255 _).2 (zc_m255 _).1 (zc_m255 _).2 hp
end MID
end
section
/-! ===== the law: the questions of its first half ===== -/
theorem zc_btw : ∀ e, e < 7 → ∀ a, a < 7 → ∀ l, l < 4 → (nI e - 1 - nI a ≤ nI l ↔ e ≤ a + 1 + l) := by decide +kernel
theorem zc_flat2 {m : Nat} {g : Nat → Int32} (hm : 2 ≤ m) (hS : zc_dS m g) : zc_flat 2 g := fun c hc => ⟨zc_dO hS (by omega), zc_dP hS (by omega), zc_dM hS (by omega)⟩
theorem zc_name8 (x : Int32) (i : Nat) : ∃ j, j < 8 ∧ zc_name x i = nI j := pk_andE _ 3 (m := 7) (by decide)
theorem zc_key8 (y : Int32) (i : Nat) : ∃ j, j < 8 ∧ zc_key y i = nI j := pk_andE _ 3 (m := 7) (by decide)
section HALF
variable {f0 f1 f2 f3 f4 f5 : Int32} {a1 a2 a3 a4 a5 a6 a7 a8 a9 a10 a11 a12 a13 a14 a15 a16 a17 : Nat → Int32} {post : Int32 → St0 → Prop} {mc ms kc ks m e : Nat} {x y n w z0 z1 x7 : Int32}
theorem zc_260 {J : Int32 → Int32 → Int32 → Int32 → Int32 → Int32 → Int32 → (Nat → Int32) → (Nat → Int32) → (Nat → Int32) → (Nat → Int32) → (Nat → Int32) → (Nat → Int32) → (Nat → Int32) → (Nat → Int32) → (Nat → Int32) → (Nat → Int32) → (Nat → Int32) → (Nat → Int32) → (Nat → Int32) → (Nat → Int32) → (Nat → Int32) → (Nat → Int32) → (Nat → Int32) → Prop} {i : Nat} (hB : zc_B m x y a1 a2 a3 a4 a5 a6 a7 a8 a9 a10) (hm : m ≤ 7) (hi : i < m) (h7 : (m < 7 ∧ x7 = 1) ∨ (m = 7 ∧ x7 = 0)) (hz : z1 = z0)
    (HJ : ∀ (f1 f2 f3 f4 f5 : Int32) (a11 a12 a13 a14 a15 a16 a17 : Nat → Int32), J (nI (i + 1)) (nI m) f1 f2 f3 f4 f5 a1 a2 a3 a4 a5 a6 a7 a8 a9 a10 a11 a12 a13 a14 a15 a16 a17) :
    wL_lawOf_260 post mc ms J x y n w (nI m) (nI e) x7 (nI i) z0 z1 kc ks (nI m) f1 f2 f3 f4 f5 a1 a2 a3 a4 a5 a6 a7 a8 a9 a10 a11 a12 a13 a14 a15 a16 a17 := by
  obtain ⟨hn, hS, hT, hN, h3, h4, hu, _⟩ := id hB
  have go : ∀ (r z : Int32) (f1 f2 f3 f4 f5 : Int32) (a11 a12 a13 a14 a15 a16 a17 : Nat → Int32), r = z → wL_lawOf_298 post mc ms J x y n w (nI m) (nI e) x7 (nI i) z r kc ks (nI m) f1 f2 f3 f4 f5 a1 a2 a3 a4 a5 a6 a7 a8 a9 a10 a11 a12 a13 a14 a15 a16 a17 := by
    intro r z f1 f2 f3 f4 f5 a11 a12 a13 a14 a15 a16 a17 hr
    unfold wL_lawOf_298
    exact br_t hr (nm_r (nI_1 i) (HJ _ _ _ _ _ _ _ _ _ _ _ _))
  unfold wL_lawOf_260
  refine br_t hz ?_
  refine zc_depending (q := min m 6) (p := min i 6) hn hm hi (by decide) (by decide) (fun c hc => ?_) (by omega) (fun c hc => zc_L1i (by omega) hS hT hN hc hi (by decide) (by decide)) (by omega) (fun g1 g2 g3 g4 g5 c11 c12 c13 c14 c15 c16 c17 => ?_)
  · rw [zc_L1m (by omega) hS hT hN hc (by decide) (by decide)]
    omega
  · refine pk_le 6 i (fun z => ?_) (fun z => ?_)
    · refine go _ _ _ _ _ _ _ _ _ _ _ _ _ _ ?_
      rw [show min m 6 - min i 6 = 0 by omega]
      rfl
    · rcases h7 with ⟨h, e7⟩ | ⟨h, e7⟩
      · refine br_f (by rw [e7]; decide) (go _ _ _ _ _ _ _ _ _ _ _ _ _ _ ?_)
        rw [pk_sub (by omega), show min m 6 - min i 6 = m - i by omega]
      · refine br_t e7 (go _ _ _ _ _ _ _ _ _ _ _ _ _ _ ?_)
        rw [show (6 : Int32) - nI i = nI (6 - i) from pk_sub (a := 6) (b := i) (by omega), show min m 6 - min i 6 = 6 - i by omega]
/-- many = 7: a second anchor -/
theorem zc_seven (hB : zc_B m x y a1 a2 a3 a4 a5 a6 a7 a8 a9 a10) (hm : m = 7) (he : m = e + 1) (hp : post 1 ()) {Q : Int32 → St2 → Prop}
    (hQ : ∀ a10' : Nat → Int32, zc_net m 2 a1 a2 a3 a4 a10' → Q 0 (nI m, f1, f2, f3, f4, f5, a1, a2, a3, a4, a5, a6, a7, a8, a9, a10', a11, a12, a13, a14, a15, a16, a17)) : wpX_anchor Q (nI m, f1, f2, f3, f4, f5, a1, a2, a3, a4, a5, a6, a7, a8, a9, a10, a11, a12, a13, a14, a15, a16, a17) 0 ((10 * zc_name x 1) + zc_key y 1) := by
  obtain ⟨hn, hS, hT, hN, h3, h4, hu, h10, hn2⟩ := id hB
  obtain ⟨p, hp8, ep⟩ := zc_name8 x 1
  obtain ⟨q, hq8, eq⟩ := zc_key8 y 1
  have ev : 10 * zc_name x 1 + zc_key y 1 = nI (10 * p + q) := by
    rw [ep, eq, ← nI_add, ← pk_mul]
    rfl
  have hn2' := hn2 (by omega)
  rw [ev] at hn2' ⊢
  exact zc_anchor (k := 0) (by decide) (by omega) h10 (hQ _ hn2')
theorem zc_230 (hB : zc_B m x y a1 a2 a3 a4 a5 a6 a7 a8 a9 a10) (hm : m ≤ 7) (he : m = e + 1) (h7 : (m < 7 ∧ x7 = 1) ∨ (m = 7 ∧ x7 = 0)) (hp : post 1 ()) :
    ∃ n', wL_lawOf_230 post mc ms x y n w (nI m) (nI e) x7 kc ks n' 0 (nI m) f1 f2 f3 f4 f5 a1 a2 a3 a4 a5 a6 a7 a8 a9 a10 a11 a12 a13 a14 a15 a16 a17 := by
  obtain ⟨hn, hS, hT, hN, h3, h4, hu, h10, hn2⟩ := id hB
  refine loop_0 (σ := Int32 × Int32 × Int32 × Int32 × Int32 × (Nat → Int32) × (Nat → Int32) × (Nat → Int32) × (Nat → Int32) × (Nat → Int32) × (Nat → Int32) × (Nat → Int32))
    (fun n' i s => wL_lawOf_230 post mc ms x y n w (nI m) (nI e) x7 kc ks n' (nI i) (nI m) s.1 s.2.1 s.2.2.1 s.2.2.2.1 s.2.2.2.2.1 a1 a2 a3 a4 a5 a6 a7 a8 a9 a10 s.2.2.2.2.2.1 s.2.2.2.2.2.2.1 s.2.2.2.2.2.2.2.1 s.2.2.2.2.2.2.2.2.1 s.2.2.2.2.2.2.2.2.2.1 s.2.2.2.2.2.2.2.2.2.2.1 s.2.2.2.2.2.2.2.2.2.2.2)
    (fun _ _ => True) m (f1, f2, f3, f4, f5, a11, a12, a13, a14, a15, a16, a17) trivial ?_ ?_
  · rintro n' ⟨d1, d2, d3, d4, d5, d11, d12, d13, d14, d15, d16, d17⟩ _
    refine pk_le m m (fun _ => ?_) (fun z => absurd z (by omega))
    rcases h7 with ⟨h, e7⟩ | ⟨h, e7⟩
    · refine br_f (by rw [e7]; decide) ⟨nI_ne0 (by omega) (by omega), ?_⟩
      obtain ⟨b, hb, eb⟩ := pk_andE n 8 (m := 255) (by decide)
      obtain ⟨l, hl, el⟩ := pk_andE (n >>> ((8 : Int32) &&& 31)) 2 (m := 3) (by decide)
      have ha : b % m < m := Nat.mod_lt _ (by omega)
      refine nm_r (e' := nI (b % m)) (by rw [eb]; exact pk_rem (by omega) (by omega) (by omega)) (nm_r el (nm_e ?_))
      generalize b % m = a at ha
      refine zc_set 1 4 (by omega) ha (Or.inr (Or.inl ⟨rfl, rfl⟩)) (nI_pos (by omega)) (nI_le (a := l) (b := 4) (by omega) (by decide)) ?_
      refine br_t (hS a ha).2.1 ?_
      refine zc_trusted hn (by omega) (show e < m by omega) (by decide) (by decide) (fun r h1 h0 g1 g2 g3 g4 g5 c11 c12 c13 c14 c15 c16 c17 => ?_)
      have L := zc_L2 (a := a) (e := e) (l := l) (t := 5) (hm := show m ≤ 12 by omega) hS hT hN (by omega) (by omega) (by omega) (by omega) (by decide) (by decide)
      have B := zc_btw e (by omega) a (by omega) l (by omega)
      refine br_c (fun z => ?_) (fun z => pk_eq a e (fun z2 => ?_) (fun z2 => ?_))
      · exact zc_455 hB (by omega) ha he hp (h1 (L.mpr (B.mp z)))
      · exact zc_455 hB (by omega) ha he hp (h1 (L.mpr (by omega)))
      · exact zc_455 hB (by omega) ha he hp (h0 (fun T => z (B.mpr (L.mp T))))
    · refine br_t e7 ?_
      unfold wpL_name wpL_key
      refine zc_seven hB h he hp (fun a10' hn' => br_t rfl ?_)
      have hf := zc_flat2 (show 2 ≤ m by omega) hS
      have hA : (2 = 1) ∨ ∀ c, c < m → zc_Ext 30 (-1) a3 a5 a6 a7 a8 a9 c := Or.inr (fun c hc => zc_ExtD hS hN hc (zc_gd hT hc (by decide) (by decide) (zc_n1 (by omega))))
      have T : zc_Tr 2 30 (-1) a3 a5 a6 a7 a8 a9 e := (zc_L1m (by omega) hS hT hN (by omega) (by decide) (by decide)).mpr (by omega)
      have e6 : e = 6 := by omega
      refine zc_length hn' (by omega) hf (by omega) hA (show e < m by omega) (by decide) (by decide) (Or.inr (by omega)) (by decide) (by decide) (fun _ g1 g2 g3 g4 g5 c11 c12 c13 c14 c15 c16 c17 => ?_) (fun q => absurd T q)
      refine br_t (by rw [e6]; rfl) ?_
      refine zc_stepQ (i := 0) hn' (by omega) hf (by omega) hA (show e < m by omega) (by decide) (by decide) (Or.inr (by omega)) (by decide) (by decide) (by decide) (fun _ _ g1 g2 g3 g4 g5 c11 c12 c13 c14 c15 c16 c17 => ?_) (fun _ q => absurd q (by omega)) (fun q => absurd T q)
      refine br_t rfl ?_
      refine zc_stepQ (i := 6) hn' (by omega) hf (by omega) hA (show e < m by omega) (by decide) (by decide) (Or.inr (by omega)) (by decide) (by decide) (by decide) (fun _ q => absurd q (by omega)) (fun _ _ g1 g2 g3 g4 g5 c11 c12 c13 c14 c15 c16 c17 => ?_) (fun q => absurd T q)
      exact br_t rfl hp
  · rintro n' i ⟨d1, d2, d3, d4, d5, d11, d12, d13, d14, d15, d16, d17⟩ hi _ hw
    refine pk_le m i (fun z => absurd z (by omega)) (fun _ => ?_)
    have T := zc_L1m (A := 1) (c := e) (t := 30) (show m ≤ 12 by omega) hS hT hN (by omega) (by decide) (by decide)
    have HJ : ∀ (f1 f2 f3 f4 f5 : Int32) (a11 a12 a13 a14 a15 a16 a17 : Nat → Int32), wL_lawOf_230 post mc ms x y n w (nI m) (nI e) x7 kc ks n' (nI (i + 1)) (nI m) f1 f2 f3 f4 f5 a1 a2 a3 a4 a5 a6 a7 a8 a9 a10 a11 a12 a13 a14 a15 a16 a17 :=
      fun f1 f2 f3 f4 f5 a11 a12 a13 a14 a15 a16 a17 => hw (f1, f2, f3, f4, f5, a11, a12, a13, a14, a15, a16, a17) trivial
    refine zc_stepQ (i := i) hn (by omega) (zc_flat1 _) (by omega) (Or.inl rfl) (show e < m by omega) (by decide) (by decide) (Or.inl rfl) (by decide) (by decide) (by omega) (fun q _ g1 g2 g3 g4 g5 c11 c12 c13 c14 c15 c16 c17 => ?_) (fun _ q => absurd q (by omega)) (fun q g1 g2 g3 g4 g5 c11 c12 c13 c14 c15 c16 c17 => ?_)
    · have q' := T.mp q
      rcases h7 with ⟨h, e7⟩ | ⟨h, e7⟩
      · exact br_f (by rw [e7]; decide) (zc_260 hB hm hi (Or.inl ⟨h, e7⟩) rfl HJ)
      · omega
    · have q' : ¬ e < 5 + 1 := fun k => q (T.mpr k)
      rcases h7 with ⟨h, e7⟩ | ⟨h, e7⟩
      · omega
      · exact br_t e7 (zc_260 hB hm hi (Or.inr ⟨h, e7⟩) rfl HJ)
theorem zc_222 (hB : zc_B m x y a1 a2 a3 a4 a5 a6 a7 a8 a9 a10) (hm : m ≤ 7) (he : m = e + 1) (h7 : (m < 7 ∧ x7 = 1) ∨ (m = 7 ∧ x7 = 0)) (hp : post 1 ()) (hz : z1 = z0) :
    wL_lawOf_222 post mc ms x y n w (nI m) (nI e) x7 z0 z1 kc ks (nI m) f1 f2 f3 f4 f5 a1 a2 a3 a4 a5 a6 a7 a8 a9 a10 a11 a12 a13 a14 a15 a16 a17 := by
  unfold wL_lawOf_222
  exact br_t hz (zc_230 hB hm he h7 hp)
theorem zc_193 (hB : zc_B m x y a1 a2 a3 a4 a5 a6 a7 a8 a9 a10) (hm : m ≤ 7) (he : m = e + 1) (h7 : (m < 7 ∧ x7 = 1) ∨ (m = 7 ∧ x7 = 0)) (hp : post 1 ()) (hz : z1 = z0) :
    wL_lawOf_193 post mc ms x y n w (nI m) (nI e) x7 z0 z1 kc ks (nI m) f1 f2 f3 f4 f5 a1 a2 a3 a4 a5 a6 a7 a8 a9 a10 a11 a12 a13 a14 a15 a16 a17 := by
  obtain ⟨hn, hS, hT, hN, h3, h4, hu, h10, hn2⟩ := id hB
  have T := zc_L1m (A := 1) (c := e) (t := 30) (show m ≤ 12 by omega) hS hT hN (by omega) (by decide) (by decide)
  unfold wL_lawOf_193
  refine br_t hz ?_
  refine zc_narrow hn hm (show e < m by omega) (by decide) (by decide) (fun q g1 g2 g3 g4 g5 c11 c12 c13 c14 c15 c16 c17 => ?_) (fun q => ?_)
  · have q' : ¬ e < 5 + 1 := fun k => q (T.mpr k)
    rcases h7 with ⟨h, e7⟩ | ⟨h, e7⟩
    · omega
    · exact br_t e7 (zc_222 hB hm he (Or.inr ⟨h, e7⟩) hp rfl)
  · have q' := T.mp q
    have hk : m < 7 ∧ x7 = 1 := h7.elim id (fun k => absurd k.1 (by omega))
    by_cases e1 : m = 1
    · refine Or.inl ⟨e1, fun g1 g2 g3 g4 g5 c11 c12 c13 c14 c15 c16 c17 => ?_⟩
      refine br_f (by rw [hk.2]; decide) (pk_le m 1 (fun z => ?_) (fun z => absurd z (by omega)))
      exact zc_222 hB hm he h7 hp rfl
    · refine Or.inr ⟨by omega, zc_L1z, fun g1 g2 g3 g4 g5 c11 c12 c13 c14 c15 c16 c17 => ?_⟩
      refine br_f (by rw [hk.2]; decide) (pk_le m 1 (fun z => absurd z (by omega)) (fun z => ?_))
      exact zc_222 hB hm he h7 hp rfl
theorem zc_171 (hB : zc_B m x y a1 a2 a3 a4 a5 a6 a7 a8 a9 a10) (hm : m ≤ 7) (he : m = e + 1) (h7 : (m < 7 ∧ x7 = 1) ∨ (m = 7 ∧ x7 = 0)) (hp : post 1 ()) (hz : z1 = z0) :
    wL_lawOf_171 post mc ms x y n w (nI m) (nI e) x7 z0 z1 kc ks (nI m) f1 f2 f3 f4 f5 a1 a2 a3 a4 a5 a6 a7 a8 a9 a10 a11 a12 a13 a14 a15 a16 a17 := by
  obtain ⟨hn, hS, hT, hN, h3, h4, hu, h10, hn2⟩ := id hB
  unfold wL_lawOf_171
  refine br_t hz ?_
  refine zc_count (q := min m 6) hn (by omega) hm (by decide) (by decide) (fun c hc => ?_) (by omega) (fun g1 g2 g3 g4 g5 c11 c12 c13 c14 c15 c16 c17 => ?_)
  · rw [zc_L1m (by omega) hS hT hN hc (by decide) (by decide)]
    omega
  · rcases h7 with ⟨h, e7⟩ | ⟨h, e7⟩
    · refine br_f (by rw [e7]; decide) (zc_193 hB hm he (Or.inl ⟨h, e7⟩) hp ?_)
      rw [show min m 6 = m by omega]
    · refine br_t e7 (zc_193 hB hm he (Or.inr ⟨h, e7⟩) hp ?_)
      rw [show min m 6 = 6 by omega]
      rfl
theorem zc_147 (hB : zc_B m x y a1 a2 a3 a4 a5 a6 a7 a8 a9 a10) (hm : m ≤ 7) (he : m = e + 1) (h7 : (m < 7 ∧ x7 = 1) ∨ (m = 7 ∧ x7 = 0)) (hp : post 1 ()) (hz : z1 = z0) :
    wL_lawOf_147 post mc ms x y n w (nI m) (nI e) x7 z0 z1 kc ks (nI m) f1 f2 f3 f4 f5 a1 a2 a3 a4 a5 a6 a7 a8 a9 a10 a11 a12 a13 a14 a15 a16 a17 := by
  obtain ⟨hn, hS, hT, hN, h3, h4, hu, h10, hn2⟩ := id hB
  have T := zc_L1m (A := 1) (c := e) (t := 30) (show m ≤ 12 by omega) hS hT hN (by omega) (by decide) (by decide)
  unfold wL_lawOf_147
  refine br_t hz ?_
  refine zc_length hn (by omega) (zc_flat1 _) (by omega) (Or.inl rfl) (show e < m by omega) (by decide) (by decide) (Or.inl rfl) (by decide) (by decide) (fun q g1 g2 g3 g4 g5 c11 c12 c13 c14 c15 c16 c17 => ?_) (fun q g1 g2 g3 g4 g5 c11 c12 c13 c14 c15 c16 c17 => ?_)
  · have q' := T.mp q
    have hk : m < 7 ∧ x7 = 1 := h7.elim id (fun k => absurd k.1 (by omega))
    refine br_f (by rw [hk.2]; decide) (zc_171 hB hm he h7 hp ?_)
    rw [show e + 1 - 1 + 1 = m by omega]
  · have q' : ¬ e < 5 + 1 := fun k => q (T.mpr k)
    rcases h7 with ⟨h, e7⟩ | ⟨h, e7⟩
    · omega
    · exact br_t e7 (zc_171 hB hm he (Or.inr ⟨h, e7⟩) hp rfl)
theorem zc_126 (hB : zc_B m x y a1 a2 a3 a4 a5 a6 a7 a8 a9 a10) (hm : m ≤ 7) (he : m = e + 1) (h7 : (m < 7 ∧ x7 = 1) ∨ (m = 7 ∧ x7 = 0)) (hp : post 1 ()) :
    wL_lawOf_126 post mc ms x y n w (nI m) (nI e) x7 kc ks (nI m) f1 f2 f3 f4 f5 a1 a2 a3 a4 a5 a6 a7 a8 a9 a10 a11 a12 a13 a14 a15 a16 a17 := by
  obtain ⟨hn, hS, hT, hN, h3, h4, hu, h10, hn2⟩ := id hB
  have T := zc_L1m (A := 1) (c := e) (t := 30) (show m ≤ 12 by omega) hS hT hN (by omega) (by decide) (by decide)
  unfold wL_lawOf_126
  refine zc_trusted hn (by omega) (show e < m by omega) (by decide) (by decide) (fun r h1 h0 g1 g2 g3 g4 g5 c11 c12 c13 c14 c15 c16 c17 => ?_)
  rcases h7 with ⟨h, e7⟩ | ⟨h, e7⟩
  · exact br_f (by rw [e7]; decide) (zc_147 hB hm he (Or.inl ⟨h, e7⟩) hp (h1 (T.mpr (by omega))))
  · exact br_t e7 (zc_147 hB hm he (Or.inr ⟨h, e7⟩) hp (h0 (fun q => absurd (T.mp q) (by omega))))
end HALF
end
section
/-! ===== the law: what it makes ===== -/
theorem zc_nameN (x : Int32) : ∃ p q, p < 4 ∧ q < 8 ∧ ∀ i, i < 100 → zc_name x i = nI ((i * (1 + 2 * p) + q) % 8) := by
  obtain ⟨p, hp, ep⟩ := pk_andE x 2 (m := 3) (by decide)
  obtain ⟨q, hq, eq⟩ := pk_andE (x >>> ((2 : Int32) &&& 31)) 3 (m := 7) (by decide)
  refine ⟨p, q, hp, hq, fun i hi => ?_⟩
  unfold zc_name
  rw [ep, eq]
  have e1 : (2 : Int32) * nI p = nI (2 * p) := pk_mul 2 p
  have e2 : (1 : Int32) + nI (2 * p) = nI (1 + 2 * p) := nI_add 1 _
  rw [e1, e2, pk_mul, nI_add]
  have hb : i * (1 + 2 * p) ≤ 100 * 7 := Nat.mul_le_mul (by omega) (by omega)
  exact pk_andN (by omega) 3 (by decide)
theorem zc_inj8 : ∀ p, p < 4 → ∀ q, q < 8 → ∀ i, i < 8 → ∀ j, j < 8 → (i * (1 + 2 * p) + q) % 8 = (j * (1 + 2 * p) + q) % 8 → i = j := by decide +kernel
theorem zc_nameI {x : Int32} {i j : Nat} (hi : i < 8) (hj : j < 8) (h : zc_name x i = zc_name x j) : i = j := by
  obtain ⟨p, q, hp, hq, f⟩ := zc_nameN x
  rw [f i (by omega), f j (by omega), nI_eq (by omega) (by omega)] at h
  exact zc_inj8 p hp q hq i hi j hj h
/-- an anchor's number tells the name -/
theorem zc_endI {x y : Int32} {i j : Nat} (hi : i < 8) (hj : j < 8) (h : 10 * zc_name x i + zc_key y i = 10 * zc_name x j + zc_key y j) : i = j := by
  obtain ⟨p, hp, ep⟩ := zc_name8 x i
  obtain ⟨q, hq, eq⟩ := zc_name8 x j
  obtain ⟨k, hk, ek⟩ := zc_key8 y i
  obtain ⟨l, hl, el⟩ := zc_key8 y j
  refine zc_nameI (x := x) hi hj ?_
  have e1 : 10 * zc_name x i + zc_key y i = nI (10 * p + k) := by
    rw [ep, ek, ← nI_add, ← pk_mul]
    rfl
  have e2 : 10 * zc_name x j + zc_key y j = nI (10 * q + l) := by
    rw [eq, el, ← nI_add, ← pk_mul]
    rfl
  rw [e1, e2, nI_eq (by omega) (by omega)] at h
  rw [ep, eq, show p = q by omega]
theorem zc_endP {x y : Int32} {i : Nat} : ¬ (-1 : Int32) = 10 * zc_name x i + zc_key y i := by
  obtain ⟨p, hp, ep⟩ := zc_name8 x i
  obtain ⟨k, hk, ek⟩ := zc_key8 y i
  have e1 : 10 * zc_name x i + zc_key y i = nI (10 * p + k) := by
    rw [ep, ek, ← nI_add, ← pk_mul]
    rfl
  rw [e1]
  exact fun z => zc_n1 (by omega) z.symm
/-- the first i certificates are made -/
def zc_mk (x y : Int32) (i : Nat) (b1 b2 b3 b4 b6 g b8 : Nat → Int32) : Prop :=
  (∀ c, c < i → b1 c = zc_name x c ∧ b2 c = zc_key y c ∧ b3 c = zc_name x (c + 1) ∧ b4 c = zc_key y (c + 1) ∧ b6 c = 100 ∧ b8 c = 1000 ∧ g (5 * c) = 1 ∧ g (5 * c + 1) = 4 ∧ g (5 * c + 2) = 255 ∧ g (5 * c + 4) = 15) ∧ (∀ c, g (5 * c + 3) = 0)
theorem zc_mkNet {x y : Int32} {m A : Nat} {b1 b2 b3 b4 b6 g b8 b10 : Nat → Int32} (hm : m ≤ 7) (h : zc_mk x y m b1 b2 b3 b4 b6 g b8)
    (hb : ∀ c, c < m → (c < A → b10 0 = 10 * zc_name x c + zc_key y c ∨ b10 1 = 10 * zc_name x c + zc_key y c ∨ b10 2 = 10 * zc_name x c + zc_key y c) ∧
      (A ≤ c → ¬ b10 0 = 10 * zc_name x c + zc_key y c ∧ ¬ b10 1 = 10 * zc_name x c + zc_key y c ∧ ¬ b10 2 = 10 * zc_name x c + zc_key y c)) : zc_net m A b1 b2 b3 b4 b10 := by
  refine ⟨fun c hc z => ?_, fun c l hc hl => ⟨fun z => ?_, fun z q => z ?_⟩, fun c hc => ?_⟩
  · rw [(h.1 c hc).1, (h.1 c hc).2.2.1] at z
    exact absurd (zc_nameI (by omega) (by omega) z) (by omega)
  · rw [(h.1 c hc).1, (h.1 c hc).2.1, (h.1 l hl).2.2.1, (h.1 l hl).2.2.2.1, z]
    exact ⟨rfl, rfl⟩
  · rw [(h.1 c hc).1, (h.1 l hl).2.2.1] at q
    exact zc_nameI (by omega) (by omega) q
  · rw [(h.1 c hc).1, (h.1 c hc).2.1]
    exact hb c hc
theorem zc_mkB {x y : Int32} {m : Nat} {b1 b2 b3 b4 b5 b6 g b8 b9 b10 : Nat → Int32} (hm : m ≤ 7) (h : zc_mk x y m b1 b2 b3 b4 b6 g b8) (h5 : ∀ c, b5 c = 0) (h9 : ∀ c, b9 c = 0)
    (h0 : b10 0 = -1) (h1 : b10 1 = 10 * zc_name x 0 + zc_key y 0) (h2 : b10 2 = -1) : zc_B m x y b1 b2 b3 b4 b5 b6 g b8 b9 b10 := by
  refine ⟨zc_mkNet hm h (fun c hc => ⟨fun z => ?_, fun z => ⟨?_, ?_, ?_⟩⟩), fun c hc => ?_, fun c hc => ?_, fun c hc => ?_, fun c hc => (h.1 c hc).2.2.1, fun c hc => (h.1 c hc).2.2.2.1, fun c j hc hj hne z => ?_, h0, fun hm1 => zc_mkNet hm h (fun c hc => ⟨fun z => ?_, fun z => ⟨?_, ?_, ?_⟩⟩)⟩
  · have e : c = 0 := by omega
    subst e
    exact Or.inr (Or.inl h1)
  · rw [h0]
    exact zc_endP
  · rw [h1]
    exact fun q => absurd (zc_endI (by omega) (by omega) q) (by omega)
  · rw [h2]
    exact zc_endP
  · obtain ⟨_, _, _, _, _, _, g0, g1, g2, g4⟩ := h.1 c hc
    exact ⟨g0, g1, g2, h.2 c, g4⟩
  · obtain ⟨_, _, _, _, q6, q8, _⟩ := h.1 c hc
    exact ⟨h5 c, q6, q8, h9 c⟩
  · rw [(h.1 c hc).2.2.1]
    exact zc_name8 x (c + 1)
  · rw [(h.1 c hc).2.2.1, (h.1 j hj).2.2.1] at z
    exact absurd (zc_nameI (by omega) (by omega) z) (by omega)
  · have e : c = 0 ∨ c = 1 := by omega
    rcases e with e | e
    · subst e
      rw [pk_un (show 1 ≠ 0 by decide)]
      exact Or.inr (Or.inl h1)
    · subst e
      exact Or.inl pk_us
  · rw [pk_us]
    exact fun q => absurd (zc_endI (by omega) (by omega) q) (by omega)
  · rw [pk_un (by decide), h1]
    exact fun q => absurd (zc_endI (by omega) (by omega) q) (by omega)
  · rw [pk_un (by decide), h2]
    exact zc_endP
theorem zc_mkS {x y p1 p2 p3 p4 : Int32} {i : Nat} {b1 b2 b3 b4 b6 g b8 : Nat → Int32} (h : zc_mk x y i b1 b2 b3 b4 b6 g b8) (h1 : zc_name x i = p1) (h2 : zc_key y i = p2) (h3 : zc_name x (i + 1) = p3) (h4 : zc_key y (i + 1) = p4) :
    zc_mk x y (i + 1) (upd b1 i p1) (upd b2 i p2) (upd b3 i p3) (upd b4 i p4) (upd b6 i 100) (upd (upd (upd (upd g (5 * i) 1) (5 * i + 1) 4) (5 * i + 2) 255) (5 * i + 4) 15) (upd b8 i 1000) := by
  refine ⟨fun c hc => ?_, fun c => ?_⟩
  · by_cases e : c = i
    · subst e
      refine ⟨by rw [pk_us, h1], by rw [pk_us, h2], by rw [pk_us, h3], by rw [pk_us, h4], pk_us, pk_us, ?_, ?_, ?_, pk_us⟩
      · rw [pk_un (by omega), pk_un (by omega), pk_un (by omega), pk_us]
      · rw [pk_un (by omega), pk_un (by omega), pk_us]
      · rw [pk_un (by omega), pk_us]
    · obtain ⟨q1, q2, q3, q4, q6, q8, g0, g1, g2, g4⟩ := h.1 c (by omega)
      refine ⟨by rw [pk_un e, q1], by rw [pk_un e, q2], by rw [pk_un e, q3], by rw [pk_un e, q4], by rw [pk_un e, q6], by rw [pk_un e, q8], ?_, ?_, ?_, ?_⟩
      · rw [pk_un (by omega), pk_un (by omega), pk_un (by omega), pk_un (by omega), g0]
      · rw [pk_un (by omega), pk_un (by omega), pk_un (by omega), pk_un (by omega), g1]
      · rw [pk_un (by omega), pk_un (by omega), pk_un (by omega), pk_un (by omega), g2]
      · rw [pk_un (by omega), pk_un (by omega), pk_un (by omega), pk_un (by omega), g4]
  · rw [pk_un (by omega), pk_un (by omega), pk_un (by omega), pk_un (by omega)]
    exact h.2 c
section MAKE
variable {f0 f1 f2 f3 f4 f5 : Int32} {a1 a2 a3 a4 a5 a6 a7 a8 a9 a10 a11 a12 a13 a14 a15 a16 a17 : Nat → Int32} {post : Int32 → St0 → Prop} {mc ms kc ks m e : Nat} {x y n w : Int32}
theorem zc_47 (hm : m ≤ 7) (he : m = e + 1) (h : zc_mk x y 0 a1 a2 a3 a4 a6 a7 a8) (h5 : ∀ c, a5 c = 0) (h9 : ∀ c, a9 c = 0) (h0 : a10 0 = -1) (h1 : a10 1 = 10 * zc_name x 0 + zc_key y 0) (h2 : a10 2 = -1) (hp : post 1 ()) :
    ∃ n', wL_lawOf_47 post mc ms x y n w (nI m) kc ks n' 0 0 f1 f2 f3 f4 f5 a1 a2 a3 a4 a5 a6 a7 a8 a9 a10 a11 a12 a13 a14 a15 a16 a17 := by
  refine loop_0 (σ := (Nat → Int32) × (Nat → Int32) × (Nat → Int32) × (Nat → Int32) × (Nat → Int32) × (Nat → Int32) × (Nat → Int32))
    (fun n' i s => wL_lawOf_47 post mc ms x y n w (nI m) kc ks n' (nI i) (nI i) f1 f2 f3 f4 f5 s.1 s.2.1 s.2.2.1 s.2.2.2.1 a5 s.2.2.2.2.1 s.2.2.2.2.2.1 s.2.2.2.2.2.2 a9 a10 a11 a12 a13 a14 a15 a16 a17)
    (fun i s => zc_mk x y i s.1 s.2.1 s.2.2.1 s.2.2.2.1 s.2.2.2.2.1 s.2.2.2.2.2.1 s.2.2.2.2.2.2) m (a1, a2, a3, a4, a6, a7, a8) h ?_ ?_
  · rintro n' ⟨b1, b2, b3, b4, b6, b7, b8⟩ hI
    have hB := zc_mkB hm hI h5 h9 h0 h1 h2
    refine pk_le m m (fun _ => nm_r (e' := nI e) (by rw [he]; exact nI_pred e) ?_) (fun z => absurd z (by omega))
    refine pk_le 7 m (fun z => ?_) (fun z => ?_)
    · exact zc_126 hB hm he (Or.inr ⟨by omega, rfl⟩) hp
    · exact zc_126 hB hm he (Or.inl ⟨by omega, rfl⟩) hp
  · rintro n' i ⟨b1, b2, b3, b4, b6, b7, b8⟩ hi hI hw
    refine pk_le m i (fun z => absurd z (by omega)) (fun _ => ?_)
    obtain ⟨p1, hp1, ep1⟩ := zc_name8 x i
    obtain ⟨p3, hp3, ep3⟩ := zc_name8 x (i + 1)
    obtain ⟨p2, hp2, ep2⟩ := zc_key8 y i
    obtain ⟨p4, hp4, ep4⟩ := zc_key8 y (i + 1)
    unfold wpL_name wpL_key
    rw [nI_1 i]
    show wpX_make _ _ (8 * zc_name x i + zc_name x (i + 1)) (10 * zc_key y i + zc_key y (i + 1))
    rw [ep1, ep2, ep3, ep4]
    refine zc_make (m := i) (by omega) hp1 hp3 (by omega) (by omega) (br_t rfl (nm_e ?_))
    exact hw (upd b1 i (nI p1), upd b2 i (nI p2), upd b3 i (nI p3), upd b4 i (nI p4), upd b6 i 100, upd (upd (upd (upd b7 (5 * i) 1) (5 * i + 1) 4) (5 * i + 2) 255) (5 * i + 4) 15, upd b8 i 1000) (zc_mkS hI ep1 ep2 ep3 ep4)
end MAKE
theorem zc_init {post : St2 → Prop} {mc ms : Nat} (hc : 17 ≤ mc) (hs : 5292 ≤ ms)
    (H : ∀ b10 : Nat → Int32, b10 0 = -1 → b10 1 = -1 → b10 2 = -1 → post (0, 0, 0, 0, 0, 0, fun _ => 0, fun _ => 0, fun _ => 0, fun _ => 0, fun _ => 0, fun _ => 0, fun _ => 0, fun _ => 0, fun _ => 0, b10, fun _ => 0, fun _ => 0, fun _ => 0, fun _ => 0, fun _ => 0, fun _ => 0, fun _ => 0)) : wpX_init post mc ms (0, 0, 0, 0, 0, 0) := by
  unfold wpX_init
  dsimp only
  refine ⟨by omega, by omega, by omega, by omega, by omega, by omega, by omega, by omega, by omega, by omega, by omega, by omega, by omega, by omega, by omega, by omega, by omega, by omega, by omega, by omega, by omega, by omega, by omega, by omega, by omega, by omega, by omega, by omega, by omega, by omega, by omega, by omega, by omega, by omega, ?_⟩
  refine loop_0 (fun n i s => wX_init_146 post mc ms 17 5292 0 0 0 0 0 0 n (nI i) (fun _ => 0) (fun _ => 0) (fun _ => 0) (fun _ => 0) (fun _ => 0) (fun _ => 0) (fun _ => 0) (fun _ => 0) (fun _ => 0) s (fun _ => 0) (fun _ => 0) (fun _ => 0) (fun _ => 0) (fun _ => 0) (fun _ => 0) (fun _ => 0)) (fun i s => ∀ j, j < i → s j = -1) 3 (fun _ => 0) (fun j hj => absurd hj (Nat.not_lt_zero j)) ?_ ?_
  · intro n s hI
    exact pk_le 3 3 (fun _ => H s (hI 0 (by omega)) (hI 1 (by omega)) (hI 2 (by omega))) (fun z => absurd z (by omega))
  · intro n i s hi hI hw
    refine pk_le 3 i (fun z => absurd z (by omega)) (fun _ => ⟨vp_in_nI hi (by decide), ?_⟩)
    rw [nI_clamp (show i < 2 ^ 31 by omega)]
    refine nm_e (nm_r (nI_1 i) (hw _ (fun j hj => ?_)))
    by_cases e : j = i
    · rw [e, pk_us]
    · rw [pk_un e]
      exact hI j (by omega)
theorem zc_lawOf {post : Int32 → St0 → Prop} {mc ms : Nat} {x y n w : Int32} (hc : 18 ≤ mc) (hs : 5315 ≤ ms) (hp : post 1 ()) : wpL_lawOf post mc ms () x y n w := by
  unfold wpL_lawOf
  refine ⟨by omega, by omega, 17, 5292, by omega, by omega, ?_⟩
  refine zc_init (by omega) (by omega) (fun b10 k0 k1 k2 => ⟨by decide, ?_⟩)
  obtain ⟨b, hb, eb⟩ := pk_andE (x >>> ((5 : Int32) &&& 31)) 8 (m := 255) (by decide)
  have h7 : b % 7 < 7 := Nat.mod_lt _ (by decide)
  have em : (1 : Int32) + ((x >>> ((5 : Int32) &&& 31) &&& 255) - (x >>> ((5 : Int32) &&& 31) &&& 255) / 7 * 7) = nI (b % 7 + 1) := by
    rw [eb, show nI b - nI b / 7 * 7 = nI (b % 7) from pk_rem (d := 7) (by omega) (by decide) (by decide), show (1 : Int32) + nI (b % 7) = nI (1 + b % 7) from nI_add 1 _, Nat.add_comm]
  refine nm_r em ?_
  generalize b % 7 = e at h7
  unfold wpL_name wpL_key
  obtain ⟨p, hp8, ep⟩ := zc_name8 x 0
  obtain ⟨q, hq8, eq⟩ := zc_key8 y 0
  have ev : 10 * zc_name x 0 + zc_key y 0 = nI (10 * p + q) := by
    rw [ep, eq, ← nI_add, ← pk_mul]
    rfl
  show wpX_anchor _ _ 1 (10 * zc_name x 0 + zc_key y 0)
  rw [ev]
  refine zc_anchor (k := 1) (by decide) (by omega) k1 ?_
  refine zc_47 (e := e) (by omega) rfl ⟨fun c hc => absurd hc (Nat.not_lt_zero c), fun _ => rfl⟩ (fun _ => rfl) (fun _ => rfl) ?_ ?_ ?_ hp
  · rw [pk_un (by decide)]
    exact k0
  · rw [pk_us, ev]
  · rw [pk_un (by decide)]
    exact k2
end
section
/-! ===== the law ===== -/
theorem zc_cell {post : Int32 → Prop} {L : Nat} {xs : Nat → Int32} (hL : L ≤ 4) (k : Nat) (hk : k < 4) (h : ∀ r, post r) : wpL_cellAt post L xs () (nI k) :=
  pk_le L k (fun _ => h 0) (fun z => ⟨vp_in_nI z (by omega), h _⟩)
theorem i_vc (xs : Nat → Int32) (L : Nat) (hL : L ≤ 4) : wpL_law (fun r => r = 1) L xs := by
  unfold wpL_law
  refine zc_cell hL 0 (by decide) (fun r1 => zc_cell hL 1 (by decide) (fun r2 => zc_cell hL 2 (by decide) (fun r3 => zc_cell hL 3 (by decide) (fun r4 => ⟨2690, 43040, by omega, by omega, ?_⟩))))
  exact zc_lawOf (by omega) (by omega) rfl
end
