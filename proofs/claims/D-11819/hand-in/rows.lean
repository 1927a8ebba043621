section
/-! Int32 by its bits (rows of BITS.to-paste, renamed), counts, arrays -/
def cb_bt (x : Int32) (i : Nat) : Bool := x.toBitVec.getLsbD i
theorem cb_ext {x y : Int32} (h : ∀ i, i < 32 → cb_bt x i = cb_bt y i) : x = y := Int32.toBitVec_inj.mp (BitVec.eq_of_getLsbD_eq (fun i hi => h i hi))
theorem cb_or (x y : Int32) (i : Nat) : cb_bt (x ||| y) i = (cb_bt x i || cb_bt y i) := by unfold cb_bt; rw [Int32.toBitVec_or, BitVec.getLsbD_or]
theorem cb_and (x y : Int32) (i : Nat) : cb_bt (x &&& y) i = (cb_bt x i && cb_bt y i) := by unfold cb_bt; rw [Int32.toBitVec_and, BitVec.getLsbD_and]
theorem cb_xor (x y : Int32) (i : Nat) : cb_bt (x ^^^ y) i = (cb_bt x i ^^ cb_bt y i) := by unfold cb_bt; rw [Int32.toBitVec_xor, BitVec.getLsbD_xor]
theorem cb_m1 : ∀ i, i < 32 → cb_bt (-1) i = true := by decide +kernel
theorem cb_0 (i : Nat) : cb_bt 0 i = false := BitVec.getLsbD_zero
theorem cb_1 : ∀ i, i < 32 → cb_bt 1 i = decide (i = 0) := by decide +kernel
theorem cb_sl : ∀ n, n < 32 → ((nI n &&& 31).toBitVec.smod 32).toNat = n := by decide +kernel
theorem cb_shl (n : Nat) (hn : n < 32) (x : Int32) {i : Nat} (hi : i < 32) : cb_bt (x <<< (nI n &&& 31)) i = (decide (n ≤ i) && cb_bt x (i - n)) := by
  unfold cb_bt
  rw [Int32.toBitVec_shiftLeft]
  show (x.toBitVec <<< ((nI n &&& 31).toBitVec.smod 32).toNat).getLsbD i = _
  rw [cb_sl n hn, BitVec.getLsbD_shiftLeft]
  rcases Nat.lt_or_ge i n with h | h
  · simp [h, Nat.not_le.mpr h]
  · simp [hi, h, Nat.not_lt.mpr h]
theorem cb_sshr (n : Nat) (hn : n < 32) (x : Int32) {i : Nat} (hi : i < 32) : cb_bt (x >>> (nI n &&& 31)) i = if n + i < 32 then cb_bt x (n + i) else cb_bt x 31 := by
  unfold cb_bt
  rw [Int32.toBitVec_shiftRight]
  show (x.toBitVec.sshiftRight ((nI n &&& 31).toBitVec.smod 32).toNat).getLsbD i = _
  rw [cb_sl n hn, BitVec.getLsbD_sshiftRight, BitVec.msb_eq_getLsbD_last]
  simp [hi]
/-- one bit set -/
theorem cb_bit (j : Nat) (hj : j < 32) {i : Nat} (hi : i < 32) : cb_bt ((1 : Int32) <<< (nI j &&& 31)) i = decide (i = j) := by
  rw [cb_shl j hj 1 hi]
  rcases Nat.lt_or_ge i j with h | h
  · rw [decide_eq_false (show ¬ j ≤ i by omega), decide_eq_false (show ¬ i = j by omega)]
    rfl
  · rw [decide_eq_true h, cb_1 _ (by omega), Bool.true_and]
    by_cases e : i = j
    · rw [decide_eq_true e, decide_eq_true (show i - j = 0 by omega)]
    · rw [decide_eq_false e, decide_eq_false (show ¬ i - j = 0 by omega)]
theorem cb_not (x : Int32) {i : Nat} (hi : i < 32) : cb_bt (x ^^^ (-1)) i = !cb_bt x i := by
  rw [cb_xor, cb_m1 i hi]
  cases cb_bt x i <;> rfl
theorem cb_one (x : Int32) {k : Nat} (hk : k < 32) : (x >>> (nI k &&& 31)) &&& 1 = if cb_bt x k = true then 1 else 0 := by
  apply cb_ext
  intro i hi
  rw [cb_and, cb_1 i hi, cb_sshr k hk x hi]
  by_cases e : i = 0
  · subst e
    rw [if_pos (show k + 0 < 32 by omega), Nat.add_zero]
    cases cb_bt x k
    · simp [cb_0]
    · simp [cb_1]
  · rw [decide_eq_false e, Bool.and_false]
    cases cb_bt x k
    · simp [cb_0]
    · simp [cb_1 i hi, e]
theorem cb_one1 (x : Int32) {k : Nat} (hk : k < 32) : ((x >>> (nI k &&& 31)) &&& 1) = 1 ↔ cb_bt x k = true := by
  rw [cb_one x hk]
  cases cb_bt x k
  · simp
  · simp
theorem cb_one0 (x : Int32) {k : Nat} (hk : k < 32) : ((x >>> (nI k &&& 31)) &&& 1) = 0 ↔ cb_bt x k = false := by
  rw [cb_one x hk]
  cases cb_bt x k
  · simp
  · simp
theorem cb_test (x : Int32) {j : Nat} (hj : j < 32) : x &&& ((1 : Int32) <<< (nI j &&& 31)) = 0 ↔ cb_bt x j = false := by
  constructor
  · intro h
    have t : cb_bt (x &&& ((1 : Int32) <<< (nI j &&& 31))) j = false := by rw [h, cb_0]
    rw [cb_and, cb_bit j hj hj, decide_eq_true rfl, Bool.and_true] at t
    exact t
  · intro h
    apply cb_ext
    intro i hi
    rw [cb_and, cb_bit j hj hi, cb_0]
    by_cases e : i = j
    · rw [e, h, Bool.false_and]
    · rw [decide_eq_false e, Bool.and_false]
/-! counting -/
def cv_cnt (p : Nat → Bool) : Nat → Nat
  | 0 => 0
  | n + 1 => cv_cnt p n + (if p n = true then 1 else 0)
theorem cv_cnt_le (p : Nat → Bool) (n : Nat) : cv_cnt p n ≤ n := by
  induction n with
  | zero => exact Nat.le_refl 0
  | succ n ih =>
    show cv_cnt p n + (if p n = true then 1 else 0) ≤ n + 1
    split <;> omega
theorem cv_cnt_add (p : Nat → Bool) (m d : Nat) : cv_cnt p (m + d) = cv_cnt p m + cv_cnt (fun j => p (m + j)) d := by
  induction d with
  | zero => rfl
  | succ d ih =>
    show cv_cnt p (m + d) + (if p (m + d) = true then 1 else 0) = cv_cnt p m + (cv_cnt (fun j => p (m + j)) d + (if p (m + d) = true then 1 else 0))
    rw [ih, Nat.add_assoc]
theorem cv_cnt_congr {p q : Nat → Bool} {n : Nat} (h : ∀ i, i < n → p i = q i) : cv_cnt p n = cv_cnt q n := by
  induction n with
  | zero => rfl
  | succ n ih =>
    show cv_cnt p n + (if p n = true then 1 else 0) = cv_cnt q n + (if q n = true then 1 else 0)
    rw [ih (fun i hi => h i (by omega)), h n (by omega)]
theorem cv_cnt_0 {p : Nat → Bool} {n : Nat} (h : ∀ i, i < n → p i = false) : cv_cnt p n = 0 := by
  induction n with
  | zero => rfl
  | succ n ih =>
    show cv_cnt p n + (if p n = true then 1 else 0) = 0
    rw [ih (fun i hi => h i (by omega)), h n (by omega)]
    rfl
/-- the 64 keys, of which the eight 7 i + d alone may count -/
theorem cv_cnt_key {p : Nat → Bool} {d : Nat} (hd : d < 8) (h : ∀ k, k < 64 → (∀ i, i < 8 → k ≠ 7 * i + d) → p k = false) : cv_cnt p 64 = cv_cnt (fun i => p (7 * i + d)) 8 := by
  have key : ∀ i, i ≤ 8 → cv_cnt p (7 * i + d) = cv_cnt (fun i => p (7 * i + d)) i := by
    intro i
    induction i with
    | zero =>
      intro _
      exact cv_cnt_0 (fun k hk => h k (by omega) (fun i hi => by omega))
    | succ i ih =>
      intro hi
      have e : 7 * (i + 1) + d = (7 * i + d + 1) + 6 := by omega
      rw [e, cv_cnt_add]
      have z : cv_cnt (fun j => p (7 * i + d + 1 + j)) 6 = 0 := cv_cnt_0 (fun k hk => h _ (by omega) (fun i' hi' => by omega))
      rw [z]
      show cv_cnt p (7 * i + d) + (if p (7 * i + d) = true then 1 else 0) + 0 = cv_cnt (fun i => p (7 * i + d)) i + (if p (7 * i + d) = true then 1 else 0)
      rw [ih (by omega), Nat.add_zero]
  have e : 64 = (7 * 8 + d) + (8 - d) := by omega
  have z : cv_cnt (fun j => p (7 * 8 + d + j)) (8 - d) = 0 := cv_cnt_0 (fun k hk => h _ (by omega) (fun i' hi' => by omega))
  rw [e, cv_cnt_add, z, key 8 (by omega), Nat.add_zero]
theorem cv_add1 (c : Nat) (b : Bool) : nI c + (if b = true then 1 else 0) = nI (c + (if b = true then 1 else 0)) := by
  cases b
  · show nI c + nI 0 = nI (c + 0)
    rw [nI_add]
  · exact nI_1 c
/-! arrays -/
theorem cv_ix (a i : Nat) : (8 : Int32) * nI a + nI i = nI (8 * a + i) := by
  show nI 8 * nI a + nI i = _
  rw [pk_mul, nI_add]
theorem cv_ixc {a i : Nat} (h : 8 * a + i < 2 ^ 31) : ((8 : Int32) * nI a + nI i).toNatClampNeg = 8 * a + i := by
  rw [cv_ix, nI_clamp h]
theorem cv_fill {f s : Nat → Int32} {B i k : Nat} {x : Int32} (hk : k = B + i) (h : ∀ j, j < i → s (B + j) = f j) (hx : x = f i) : ∀ j, j < i + 1 → upd s k x (B + j) = f j := by
  intro j hj
  rw [hk]
  by_cases e : j = i
  · rw [e, pk_us, hx]
  · rw [pk_un (by omega)]
    exact h j (by omega)
theorem cv_fill0 {f s : Nat → Int32} {i k : Nat} {x : Int32} (hk : k = i) (h : ∀ j, j < i → s j = f j) (hx : x = f i) : ∀ j, j < i + 1 → upd s k x j = f j := by
  intro j hj
  rw [hk]
  by_cases e : j = i
  · rw [e, pk_us, hx]
  · rw [pk_un e]
    exact h j (by omega)
theorem cv_sh3 {c j : Nat} (hc : c < 8) (hj : j < 8) : nI (8 * c + j) >>> ((3 : Int32) &&& 31) = nI c := by
  rw [pk_shrN (by omega) ((3 : Int32) &&& 31) 3 (by decide)]
  congr 1
  omega
theorem cv_a7 {c j : Nat} (hc : c < 8) (hj : j < 8) : nI (8 * c + j) &&& 7 = nI j := by
  rw [pk_andN (by omega) 3 (by decide)]
  congr 1
  omega
theorem cv_split {k : Nat} (hk : k < 64) : ∃ c j, c < 8 ∧ j < 8 ∧ k = 8 * c + j := ⟨k / 8, k % 8, by omega, by omega, by omega⟩
end
section
/-! the pictures: a mask over eight values, kept chunks, rows of chunks, the working map -/
def cv_gd (m : Int32) (v : Nat → Int32) : Prop := ∀ i, i < 32 → cb_bt m i = (decide (i < 8) && decide (¬ v i = 0))
/-- none, or one of the first n -/
def cv_p (n : Nat) (x : Int32) : Prop := x = -1 ∨ ∃ q, q < n ∧ x = nI q
/-- the kept chunks: n of them -/
def cv_K (n : Nat) (a1 a2 a3 a4 : Nat → Int32) : Prop := (∀ k, k < n → cv_gd (a1 k) (fun j => a2 (8 * k + j))) ∧ (∀ k, k < n → cv_p n (a3 k)) ∧ (∀ h, h < 32 → cv_p n (a4 h))
/-- x is the number of a kept chunk that holds f -/
def cv_eq (n : Nat) (a2 : Nat → Int32) (x : Int32) (f : Nat → Int32) : Prop := ∃ q, q < n ∧ x = nI q ∧ ∀ j, j < 8 → a2 (8 * q + j) = f j
/-- row i holds the map m -/
def cv_R (n : Nat) (a2 a5 : Nat → Int32) (i : Nat) (m : Nat → Int32) : Prop := ∀ c, c < 8 → cv_eq n a2 (a5 (8 * i + c)) (fun j => m (8 * c + j))
/-- the working map is in order -/
def cv_W (n : Nat) (a2 a10 a11 a12 : Nat → Int32) : Prop := ∀ c, c < 8 → cv_gd (a10 c) (fun j => a11 (8 * c + j)) ∧ (a12 c = -1 ∨ cv_eq n a2 (a12 c) (fun j => a11 (8 * c + j)))
/-- no kept chunk was changed -/
def cv_ext (n : Nat) (a2 b2 : Nat → Int32) : Prop := ∀ k, k < n → ∀ j, j < 8 → b2 (8 * k + j) = a2 (8 * k + j)
theorem cv_gd_congr {m : Int32} {v w : Nat → Int32} (h : cv_gd m v) (e : ∀ j, j < 8 → w j = v j) : cv_gd m w := by
  intro i hi
  rw [h i hi]
  by_cases z : i < 8
  · rw [e i z]
  · rw [decide_eq_false z, Bool.false_and, Bool.false_and]
theorem cv_p_mono {n n' : Nat} {x : Int32} (h : cv_p n x) (hn : n ≤ n') : cv_p n' x := by
  rcases h with e | ⟨q, hq, e⟩
  · exact Or.inl e
  · exact Or.inr ⟨q, by omega, e⟩
theorem cv_eq_mono {n n' : Nat} {a2 b2 f : Nat → Int32} {x : Int32} (h : cv_eq n a2 x f) (hn : n ≤ n') (he : cv_ext n a2 b2) : cv_eq n' b2 x f := by
  obtain ⟨q, hq, e, hf⟩ := h
  exact ⟨q, by omega, e, fun j hj => by rw [he q hq j hj, hf j hj]⟩
theorem cv_eq_congr {n : Nat} {a2 f g : Nat → Int32} {x : Int32} (h : cv_eq n a2 x f) (e : ∀ j, j < 8 → g j = f j) : cv_eq n a2 x g := by
  obtain ⟨q, hq, ex, hf⟩ := h
  exact ⟨q, hq, ex, fun j hj => by rw [hf j hj, e j hj]⟩
theorem cv_ext_trans {n n' : Nat} {a b c : Nat → Int32} (h : cv_ext n a b) (h' : cv_ext n' b c) (hn : n ≤ n') : cv_ext n a c :=
  fun k hk j hj => (h' k (by omega) j hj).trans (h k hk j hj)
theorem cv_R_mono {n n' : Nat} {a2 b2 a5 : Nat → Int32} {i : Nat} {m : Nat → Int32} (h : cv_R n a2 a5 i m) (hn : n ≤ n') (he : cv_ext n a2 b2) : cv_R n' b2 a5 i m :=
  fun c hc => cv_eq_mono (h c hc) hn he
theorem cv_W_mono {n n' : Nat} {a2 b2 a10 a11 a12 : Nat → Int32} (h : cv_W n a2 a10 a11 a12) (hn : n ≤ n') (he : cv_ext n a2 b2) : cv_W n' b2 a10 a11 a12 :=
  fun c hc => ⟨(h c hc).1, (h c hc).2.imp id (fun t => cv_eq_mono t hn he)⟩
theorem cv_W_upd {n c : Nat} {a2 a10 a11 a12 b11 : Nat → Int32} {m x : Int32} (h : cv_W n a2 a10 a11 a12) (ho : ∀ k, k < 8 * c ∨ 8 * c + 8 ≤ k → b11 k = a11 k) (hm : cv_gd m (fun j => b11 (8 * c + j))) (hx : x = -1 ∨ cv_eq n a2 x (fun j => b11 (8 * c + j))) : cv_W n a2 (upd a10 c m) b11 (upd a12 c x) := by
  intro c' hc'
  by_cases e : c' = c
  · subst e
    rw [pk_us, pk_us]
    exact ⟨hm, hx⟩
  · rw [pk_un e, pk_un e]
    have t : ∀ j, j < 8 → (fun j => b11 (8 * c' + j)) j = (fun j => a11 (8 * c' + j)) j := fun j hj => ho _ (by omega)
    exact ⟨cv_gd_congr (h c' hc').1 t, (h c' hc').2.imp id (fun z => cv_eq_congr z t)⟩
theorem cv_K_new {n h : Nat} {dm : Int32} {a1 a2 a3 a4 a13 b2 : Nat → Int32} (hK : cv_K n a1 a2 a3 a4) (hd : cv_gd dm a13) (hh : h < 32) (h1 : ∀ j, j < 8 → b2 (8 * n + j) = a13 j) (h2 : ∀ m, m < 8 * n → b2 m = a2 m) : cv_K (n + 1) (upd a1 n dm) b2 (upd a3 n (a4 h)) (upd a4 h (nI n)) := by
  refine ⟨fun k hk => ?_, fun k hk => ?_, fun g hg => ?_⟩
  · by_cases e : k = n
    · subst e
      rw [pk_us]
      exact cv_gd_congr hd h1
    · rw [pk_un e]
      exact cv_gd_congr (hK.1 k (by omega)) (fun j hj => h2 _ (by omega))
  · by_cases e : k = n
    · subst e
      rw [pk_us]
      exact cv_p_mono (hK.2.2 h hh) (by omega)
    · rw [pk_un e]
      exact cv_p_mono (hK.2.1 k (by omega)) (by omega)
  · by_cases e : g = h
    · subst e
      rw [pk_us]
      exact Or.inr ⟨n, by omega, rfl⟩
    · rw [pk_un e]
      exact cv_p_mono (hK.2.2 g hg) (by omega)
theorem cv_gd_0 : cv_gd 0 (fun _ => 0) := by
  intro i _
  rw [cb_0]
  simp
end
section
section
variable {dm st ct br cl : Int32} {a1 a2 a3 a4 a5 a6 a7 a8 a9 a10 a11 a12 a13 : Nat → Int32}
theorem cv_isDraft {post : Int32 → Prop} {q : Nat} (hq : q < 168) (H0 : post 0) (H1 : a1 q = dm → (∀ j, j < 8 → a2 (8 * q + j) = a13 j) → post 1) : wpX_isDraft post (dm, st, ct, br, cl, a1, a2, a3, a4, a5, a6, a7, a8, a9, a10, a11, a12, a13) (nI q) := by
  unfold wpX_isDraft
  refine And.intro (pk_in q 168 hq) ?_
  rw [nI_clamp (show q < 2 ^ 31 by omega)]
  refine br_c (fun h => ?_) (fun _ => H0)
  refine pk_loop (σ := Unit) (fun fu i _ => wX_isDraft_17 post (nI q) dm st ct br cl a1 a2 a3 a4 a5 a6 a7 a8 a9 a10 a11 a12 a13 fu (nI i)) (fun i _ => ∀ j, j < i → a2 (8 * q + j) = a13 j) 8 0 () (by omega) (fun j hj => absurd hj (by omega)) ?_ ?_
  · intro fu s hI
    exact pk_le 8 8 (fun _ => H1 h hI) (fun z => absurd z (by omega))
  · intro fu i s hi hI hw
    refine pk_le 8 i (fun z => absurd z (by omega)) (fun _ => And.intro (pk_in (8 * q + i) 1344 (by omega) (cv_ix q i)) (And.intro (pk_in i 8 hi) ?_))
    rw [cv_ixc (by omega), nI_clamp (show i < 2 ^ 31 by omega)]
    refine br_c (fun e => nm_r (nI_1 i) (hw () (fun j hj => ?_))) (fun _ => H0)
    by_cases e' : j = i
    · rw [e']
      exact e
    · exact hI j (by omega)
end

section
variable {dm st ct br cl : Int32} {a1 a2 a3 a4 a5 a6 a7 a8 a9 a10 a11 a12 a13 : Nat → Int32}
theorem cv_i108 {post : Int32 → St2 → Prop} {n h : Nat} (hn : n < 168) (hh : h < 32) (H : ∀ b2 : Nat → Int32, (∀ j, j < 8 → b2 (8 * n + j) = a13 j) → (∀ m, m < 8 * n → b2 m = a2 m) → post (nI n) (dm, nI (n + 1), ct, br, cl, a1, b2, upd a3 n (a4 h), upd a4 h (nI n), a5, a6, a7, a8, a9, a10, a11, a12, a13)) : ∃ fu, wX_intern_108 post (nI h) dm (nI n) ct br cl fu 0 a1 a2 a3 a4 a5 a6 a7 a8 a9 a10 a11 a12 a13 := by
  refine pk_loop (fun fu i s => wX_intern_108 post (nI h) dm (nI n) ct br cl fu (nI i) a1 s a3 a4 a5 a6 a7 a8 a9 a10 a11 a12 a13) (fun i s => (∀ j, j < i → s (8 * n + j) = a13 j) ∧ ∀ m, m < 8 * n → s m = a2 m) 8 0 a2 (by omega) ⟨fun j hj => absurd hj (by omega), fun m _ => rfl⟩ ?_ ?_
  · intro fu s hI
    refine pk_le 8 8 (fun _ => And.intro (pk_in h 32 hh) (And.intro (pk_in n 168 hn) ?_)) (fun z => absurd z (by omega))
    rw [nI_clamp (show n < 2 ^ 31 by omega), nI_clamp (show h < 2 ^ 31 by omega)]
    refine nm_e (And.intro (pk_in h 32 hh) (nm_e (nm_r (nI_1 n) ?_)))
    rw [nI_pred]
    exact H s hI.1 hI.2
  · intro fu i s hi hI hw
    refine pk_le 8 i (fun z => absurd z (by omega)) (fun _ => And.intro (pk_in i 8 hi) (And.intro (pk_in (8 * n + i) 1344 (by omega) (cv_ix n i)) ?_))
    rw [cv_ixc (by omega), nI_clamp (show i < 2 ^ 31 by omega)]
    exact nm_e (nm_r (nI_1 i) (hw _ ⟨cv_fill rfl hI.1 rfl, fun m hm => (pk_un (by omega)).trans (hI.2 m hm)⟩))
theorem cv_i92 {post : Int32 → St2 → Prop} {n h : Nat} (hn : n < 168) (hh : h < 32) (H : ∀ b2 : Nat → Int32, (∀ j, j < 8 → b2 (8 * n + j) = a13 j) → (∀ m, m < 8 * n → b2 m = a2 m) → post (nI n) (dm, nI (n + 1), ct, br, cl, upd a1 n dm, b2, upd a3 n (a4 h), upd a4 h (nI n), a5, a6, a7, a8, a9, a10, a11, a12, a13)) : wX_intern_92 post (nI h) dm (nI n) ct br cl a1 a2 a3 a4 a5 a6 a7 a8 a9 a10 a11 a12 a13 := by
  unfold wX_intern_92
  refine And.intro (pk_in n 168 hn) ?_
  rw [nI_clamp (show n < 2 ^ 31 by omega)]
  exact nm_e (cv_i108 hn hh H)
theorem cv_i56 {post : Int32 → St2 → Prop} {n h : Nat} {x : Int32} (hn : n < 168) (hK : cv_K n a1 a2 a3 a4) (H1 : ∀ q, q < n → (∀ j, j < 8 → a2 (8 * q + j) = a13 j) → post (nI q) (dm, nI n, ct, br, cl, a1, a2, a3, a4, a5, a6, a7, a8, a9, a10, a11, a12, a13)) (H2 : wX_intern_92 post (nI h) dm (nI n) ct br cl a1 a2 a3 a4 a5 a6 a7 a8 a9 a10 a11 a12 a13) (hx : cv_p n x) : ∃ fu, wX_intern_56 post (nI h) dm (nI n) ct br cl a1 a2 a3 a4 a5 a6 a7 a8 a9 a10 a11 a12 a13 fu x 0 := by
  refine pk_loop (fun fu i s => wX_intern_56 post (nI h) dm (nI n) ct br cl a1 a2 a3 a4 a5 a6 a7 a8 a9 a10 a11 a12 a13 fu s (nI i)) (fun _ s => cv_p n s) 168 0 x (by omega) hx ?_ ?_
  · intro fu s hI
    exact pk_le 168 168 (fun _ => H2) (fun z => absurd z (by omega))
  · intro fu i s hi hI hw
    refine pk_le 168 i (fun z => absurd z (by omega)) (fun _ => br_c (fun _ => H2) (fun hne => ?_))
    rcases hI with e | ⟨q, hq, e⟩
    · exact absurd e hne
    · subst e
      refine cv_isDraft (by omega) (br_t rfl (And.intro (pk_in q 168 (by omega)) ?_)) (fun _ e2 => br_f (by decide) (H1 q hq e2))
      rw [nI_clamp (show q < 2 ^ 31 by omega)]
      exact nm_e (nm_r (nI_1 i) (hw _ (hK.2.1 q hq)))
theorem cv_intern {post : Int32 → St2 → Prop} {n : Nat} (hn : n < 168) (hK : cv_K n a1 a2 a3 a4) (hd : cv_gd dm a13)
    (H : ∀ (n' : Nat) (b1 b2 b3 b4 : Nat → Int32) (x : Int32), n ≤ n' → n' ≤ n + 1 → cv_K n' b1 b2 b3 b4 → cv_ext n a2 b2 → cv_eq n' b2 x a13 → post x (dm, nI n', ct, br, cl, b1, b2, b3, b4, a5, a6, a7, a8, a9, a10, a11, a12, a13)) : wpX_intern post (dm, nI n, ct, br, cl, a1, a2, a3, a4, a5, a6, a7, a8, a9, a10, a11, a12, a13) := by
  unfold wpX_intern
  refine pk_loop (fun fu i s => wX_intern_7 post dm (nI n) ct br cl a1 a2 a3 a4 a5 a6 a7 a8 a9 a10 a11 a12 a13 fu s (nI i)) (fun _ _ => True) 8 0 dm (by omega) trivial ?_ ?_
  · intro fu s _
    obtain ⟨h, hh, e⟩ := pk_andE ((s ^^^ ((s.toUInt32 >>> ((7 : Int32).toUInt32 &&& Int32.toUInt32 31)).toInt32)) ^^^ ((s.toUInt32 >>> ((19 : Int32).toUInt32 &&& Int32.toUInt32 31)).toInt32)) (m := 31) 5 (by decide)
    have hh : h < 32 := hh
    refine pk_le 8 8 (fun _ => nm_r e (And.intro (pk_in h 32 hh) ?_)) (fun z => absurd z (by omega))
    rw [nI_clamp (show h < 2 ^ 31 by omega)]
    refine nm_e (cv_i56 hn hK (fun q hq e2 => H n a1 a2 a3 a4 (nI q) (by omega) (by omega) hK (fun _ _ _ _ => rfl) ⟨q, hq, rfl, e2⟩) ?_ (hK.2.2 h hh))
    exact cv_i92 hn hh (fun b2 h1 h2 => H (n + 1) _ b2 _ _ (nI n) (by omega) (by omega) (cv_K_new hK hd hh h1 h2) (fun k hk j hj => h2 _ (by omega)) ⟨n, by omega, rfl, h1⟩)
  · intro fu i s hi _ hw
    refine pk_le 8 i (fun z => absurd z (by omega)) (fun _ => And.intro (pk_in i 8 hi) ?_)
    exact nm_e (nm_r (nI_1 i) (hw _ trivial))
end

section
variable {dm st ct br cl : Int32} {a1 a2 a3 a4 a5 a6 a7 a8 a9 a10 a11 a12 a13 : Nat → Int32}
theorem cv_j108 {post : Int32 → St2 → Prop} {n h : Nat} (hn : n < 168) (hh : h < 32) (H : ∀ b2 : Nat → Int32, (∀ j, j < 8 → b2 (8 * n + j) = a13 j) → (∀ m, m < 8 * n → b2 m = a2 m) → post (nI n) (dm, nI (n + 1), ct, br, cl, a1, b2, upd a3 n (a4 h), upd a4 h (nI n), a5, a6, a7, a8, a9, a10, a11, a12, a13)) : ∃ fu, wX_intern_2_108 post (nI h) dm (nI n) ct br cl fu 0 a1 a2 a3 a4 a5 a6 a7 a8 a9 a10 a11 a12 a13 := by
  refine pk_loop (fun fu i s => wX_intern_2_108 post (nI h) dm (nI n) ct br cl fu (nI i) a1 s a3 a4 a5 a6 a7 a8 a9 a10 a11 a12 a13) (fun i s => (∀ j, j < i → s (8 * n + j) = a13 j) ∧ ∀ m, m < 8 * n → s m = a2 m) 8 0 a2 (by omega) ⟨fun j hj => absurd hj (by omega), fun m _ => rfl⟩ ?_ ?_
  · intro fu s hI
    refine pk_le 8 8 (fun _ => And.intro (pk_in h 32 hh) (And.intro (pk_in n 168 hn) ?_)) (fun z => absurd z (by omega))
    rw [nI_clamp (show n < 2 ^ 31 by omega), nI_clamp (show h < 2 ^ 31 by omega)]
    refine nm_e (And.intro (pk_in h 32 hh) (nm_e (nm_r (nI_1 n) ?_)))
    rw [nI_pred]
    exact H s hI.1 hI.2
  · intro fu i s hi hI hw
    refine pk_le 8 i (fun z => absurd z (by omega)) (fun _ => And.intro (pk_in i 8 hi) (And.intro (pk_in (8 * n + i) 1344 (by omega) (cv_ix n i)) ?_))
    rw [cv_ixc (by omega), nI_clamp (show i < 2 ^ 31 by omega)]
    exact nm_e (nm_r (nI_1 i) (hw _ ⟨cv_fill rfl hI.1 rfl, fun m hm => (pk_un (by omega)).trans (hI.2 m hm)⟩))
theorem cv_j92 {post : Int32 → St2 → Prop} {n h : Nat} (hn : n < 168) (hh : h < 32) (H : ∀ b2 : Nat → Int32, (∀ j, j < 8 → b2 (8 * n + j) = a13 j) → (∀ m, m < 8 * n → b2 m = a2 m) → post (nI n) (dm, nI (n + 1), ct, br, cl, upd a1 n dm, b2, upd a3 n (a4 h), upd a4 h (nI n), a5, a6, a7, a8, a9, a10, a11, a12, a13)) : wX_intern_2_92 post (nI h) dm (nI n) ct br cl a1 a2 a3 a4 a5 a6 a7 a8 a9 a10 a11 a12 a13 := by
  unfold wX_intern_2_92
  refine And.intro (pk_in n 168 hn) ?_
  rw [nI_clamp (show n < 2 ^ 31 by omega)]
  exact nm_e (cv_j108 hn hh H)
theorem cv_j56 {post : Int32 → St2 → Prop} {n h : Nat} {x : Int32} (hn : n < 168) (hK : cv_K n a1 a2 a3 a4) (H1 : ∀ q, q < n → (∀ j, j < 8 → a2 (8 * q + j) = a13 j) → post (nI q) (dm, nI n, ct, br, cl, a1, a2, a3, a4, a5, a6, a7, a8, a9, a10, a11, a12, a13)) (H2 : wX_intern_2_92 post (nI h) dm (nI n) ct br cl a1 a2 a3 a4 a5 a6 a7 a8 a9 a10 a11 a12 a13) (hx : cv_p n x) : ∃ fu, wX_intern_2_56 post (nI h) dm (nI n) ct br cl a1 a2 a3 a4 a5 a6 a7 a8 a9 a10 a11 a12 a13 fu x 0 := by
  refine pk_loop (fun fu i s => wX_intern_2_56 post (nI h) dm (nI n) ct br cl a1 a2 a3 a4 a5 a6 a7 a8 a9 a10 a11 a12 a13 fu s (nI i)) (fun _ s => cv_p n s) 168 0 x (by omega) hx ?_ ?_
  · intro fu s hI
    exact pk_le 168 168 (fun _ => H2) (fun z => absurd z (by omega))
  · intro fu i s hi hI hw
    refine pk_le 168 i (fun z => absurd z (by omega)) (fun _ => br_c (fun _ => H2) (fun hne => ?_))
    rcases hI with e | ⟨q, hq, e⟩
    · exact absurd e hne
    · subst e
      refine cv_isDraft (by omega) (br_t rfl (And.intro (pk_in q 168 (by omega)) ?_)) (fun _ e2 => br_f (by decide) (H1 q hq e2))
      rw [nI_clamp (show q < 2 ^ 31 by omega)]
      exact nm_e (nm_r (nI_1 i) (hw _ (hK.2.1 q hq)))
theorem cv_jntern {post : Int32 → St2 → Prop} {n : Nat} (hn : n < 168) (hK : cv_K n a1 a2 a3 a4) (hd : cv_gd dm a13)
    (H : ∀ (n' : Nat) (b1 b2 b3 b4 : Nat → Int32) (x : Int32), n ≤ n' → n' ≤ n + 1 → cv_K n' b1 b2 b3 b4 → cv_ext n a2 b2 → cv_eq n' b2 x a13 → post x (dm, nI n', ct, br, cl, b1, b2, b3, b4, a5, a6, a7, a8, a9, a10, a11, a12, a13)) : wpX_intern_2 post (dm, nI n, ct, br, cl, a1, a2, a3, a4, a5, a6, a7, a8, a9, a10, a11, a12, a13) := by
  unfold wpX_intern_2
  refine pk_loop (fun fu i s => wX_intern_2_7 post dm (nI n) ct br cl a1 a2 a3 a4 a5 a6 a7 a8 a9 a10 a11 a12 a13 fu s (nI i)) (fun _ _ => True) 8 0 dm (by omega) trivial ?_ ?_
  · intro fu s _
    obtain ⟨h, hh, e⟩ := pk_andE ((s ^^^ ((s.toUInt32 >>> ((7 : Int32).toUInt32 &&& Int32.toUInt32 31)).toInt32)) ^^^ ((s.toUInt32 >>> ((19 : Int32).toUInt32 &&& Int32.toUInt32 31)).toInt32)) (m := 31) 5 (by decide)
    have hh : h < 32 := hh
    refine pk_le 8 8 (fun _ => nm_r e (And.intro (pk_in h 32 hh) ?_)) (fun z => absurd z (by omega))
    rw [nI_clamp (show h < 2 ^ 31 by omega)]
    refine nm_e (cv_j56 hn hK (fun q hq e2 => H n a1 a2 a3 a4 (nI q) (by omega) (by omega) hK (fun _ _ _ _ => rfl) ⟨q, hq, rfl, e2⟩) ?_ (hK.2.2 h hh))
    exact cv_j92 hn hh (fun b2 h1 h2 => H (n + 1) _ b2 _ _ (nI n) (by omega) (by omega) (cv_K_new hK hd hh h1 h2) (fun k hk j hj => h2 _ (by omega)) ⟨n, by omega, rfl, h1⟩)
  · intro fu i s hi _ hw
    refine pk_le 8 i (fun z => absurd z (by omega)) (fun _ => And.intro (pk_in i 8 hi) ?_)
    exact nm_e (nm_r (nI_1 i) (hw _ trivial))
end
end
section
def cv_part (code : Int32) (i : Nat) : Int32 := (code >>> ((2 * nI i) &&& 31)) &&& 3
/-- all: the kept chunks, the rows below t, the working map -/
def cv_I (n t : Nat) (M : Nat → Nat → Int32) (a1 a2 a3 a4 a5 a10 a11 a12 : Nat → Int32) : Prop := cv_K n a1 a2 a3 a4 ∧ (∀ i, i < t → cv_R n a2 a5 i (M i)) ∧ cv_W n a2 a10 a11 a12
/-- the working map is that of row i, chunk by chunk -/
def cv_cl (a5 a12 : Nat → Int32) (i : Nat) : Prop := ∀ c, c < 8 → a12 c = a5 (8 * i + c)
def cv_up (M : Nat → Nat → Int32) (t : Nat) (f : Nat → Int32) : Nat → Nat → Int32 := fun i => if i = t then f else M i
theorem cv_up_s (M : Nat → Nat → Int32) (t : Nat) (f : Nat → Int32) : cv_up M t f t = f := if_pos rfl
theorem cv_up_n (M : Nat → Nat → Int32) {t i : Nat} (f : Nat → Int32) (h : i ≠ t) : cv_up M t f i = M i := if_neg h
theorem cv_key {post : Int32 → Prop} {i d : Nat} (H : post (nI (7 * i + d))) : wpL_key post () (nI i) (nI d) := by
  have e : (7 : Int32) * nI i + nI d = nI (7 * i + d) := by
    show nI 7 * nI i + nI d = _
    rw [pk_mul, nI_add]
  unfold wpL_key
  rw [e]
  exact H
theorem cv_partw {post : Int32 → Prop} {code : Int32} {i : Nat} (H : post (cv_part code i)) : wpL_part post () code (nI i) := H
theorem cv_isKey {post : Int32 → Prop} {k : Nat} (hk : k < 64) (H : post 1) : wpX_isKey post () (nI k) := by
  unfold wpX_isKey
  exact pk_lt k 0 (fun z => absurd z (by omega)) (fun _ => pk_le 64 k (fun z => absurd z (by omega)) (fun _ => H))
section
variable {dm st ct br cl : Int32} {a1 a2 a3 a4 a5 a6 a7 a8 a9 a10 a11 a12 a13 : Nat → Int32}
theorem cv_put {post : Int32 → St2 → Prop} {n k : Nat} {v : Int32} (hk : k < 64) (hv : ¬ v = 0) (hW : cv_W n a2 a10 a11 a12)
    (H : ∀ (r : Int32) (b10 b11 b12 : Nat → Int32), cv_W n a2 b10 b11 b12 → b11 k = v → (∀ m, m ≠ k → b11 m = a11 m) → post r (dm, st, ct, br, cl, a1, a2, a3, a4, a5, a6, a7, a8, a9, b10, b11, b12, a13)) : wpX_put post (dm, st, ct, br, cl, a1, a2, a3, a4, a5, a6, a7, a8, a9, a10, a11, a12, a13) (nI k) v := by
  obtain ⟨c, j, hc, hj, e⟩ := cv_split hk
  subst e
  unfold wpX_put
  refine cv_isKey hk (br_f (by decide) (nm_r (cv_sh3 hc hj) ?_))
  rw [cv_a7 hc hj]
  have G : ∀ z, wX_put_38 post (nI (8 * c + j)) v (nI c) ((1 : Int32) <<< (nI j &&& 31)) z dm st ct br cl a1 a2 a3 a4 a5 a6 a7 a8 a9 a10 a11 a12 a13 := by
    intro z
    unfold wX_put_38
    refine And.intro (pk_in c 8 hc) (And.intro (pk_in c 8 hc) ?_)
    rw [nI_clamp (show c < 2 ^ 31 by omega), nI_clamp (show 8 * c + j < 2 ^ 31 by omega)]
    refine nm_e (And.intro (pk_in (8 * c + j) 64 hk) (nm_e (And.intro (pk_in c 8 hc) (nm_e (H z _ _ _ ?_ pk_us (fun m hm => pk_un hm))))))
    refine cv_W_upd hW (fun k hk => pk_un (by omega)) ?_ (Or.inl rfl)
    intro i hi
    rw [cb_or, cb_bit j (by omega) hi, (hW c hc).1 i hi]
    show _ = (decide (i < 8) && decide (¬ upd a11 (8 * c + j) v (8 * c + i) = 0))
    by_cases e : i = j
    · rw [e, pk_us, decide_eq_true hj, decide_eq_true hv, decide_eq_true (rfl : j = j)]
      simp
    · rw [pk_un (by omega), decide_eq_false e, Bool.or_false]
  exact nm_e (And.intro (pk_in c 8 hc) (br_c (fun _ => G 1) (fun _ => G 0)))
theorem cv_delete {post : Int32 → St2 → Prop} {n k : Nat} (hk : k < 64) (hW : cv_W n a2 a10 a11 a12)
    (H : ∀ (r : Int32) (b10 b11 b12 : Nat → Int32), cv_W n a2 b10 b11 b12 → b11 k = 0 → (∀ m, m ≠ k → b11 m = a11 m) → post r (dm, st, ct, br, cl, a1, a2, a3, a4, a5, a6, a7, a8, a9, b10, b11, b12, a13)) : wpX_delete post (dm, st, ct, br, cl, a1, a2, a3, a4, a5, a6, a7, a8, a9, a10, a11, a12, a13) (nI k) := by
  obtain ⟨c, j, hc, hj, e⟩ := cv_split hk
  subst e
  unfold wpX_delete
  refine cv_isKey hk (br_f (by decide) (nm_r (cv_sh3 hc hj) ?_))
  rw [cv_a7 hc hj, nI_clamp (show c < 2 ^ 31 by omega), nI_clamp (show 8 * c + j < 2 ^ 31 by omega)]
  refine nm_e (And.intro (pk_in c 8 hc) (br_c (fun h => H 0 _ _ _ hW ?_ (fun m _ => rfl)) (fun h => ?_)))
  · rw [cb_test _ (by omega), (hW c hc).1 j (by omega), decide_eq_true hj, Bool.true_and] at h
    have h' := of_decide_eq_false h
    exact Decidable.not_not.mp h'
  · refine And.intro (pk_in c 8 hc) (And.intro (pk_in c 8 hc) (nm_e (And.intro (pk_in (8 * c + j) 64 hk) (nm_e (And.intro (pk_in c 8 hc) (nm_e (H 1 _ _ _ ?_ pk_us (fun m hm => pk_un hm))))))))
    refine cv_W_upd hW (fun k hk => pk_un (by omega)) ?_ (Or.inl rfl)
    intro i hi
    rw [cb_and, cb_not _ hi, cb_bit j (by omega) hi, (hW c hc).1 i hi]
    show _ = (decide (i < 8) && decide (¬ upd a11 (8 * c + j) 0 (8 * c + i) = 0))
    by_cases e : i = j
    · rw [e, pk_us, decide_eq_true (rfl : j = j)]
      simp
    · rw [pk_un (by omega), decide_eq_false e, Bool.not_false, Bool.and_true]
theorem cv_load {post : St2 → Prop} {n d : Nat} {code : Int32} (hd : d < 8) (hW : cv_W n a2 a10 a11 a12)
    (H : ∀ b10 b11 b12 : Nat → Int32, cv_W n a2 b10 b11 b12 → (∀ i, i < 8 → b11 (7 * i + d) = cv_part code i) → (∀ m, (∀ i, i < 8 → m ≠ 7 * i + d) → b11 m = a11 m) → post (dm, st, ct, br, cl, a1, a2, a3, a4, a5, a6, a7, a8, a9, b10, b11, b12, a13)) : wpL_load post (dm, st, ct, br, cl, a1, a2, a3, a4, a5, a6, a7, a8, a9, a10, a11, a12, a13) code (nI d) := by
  unfold wpL_load
  refine pk_loop (σ := (Nat → Int32) × (Nat → Int32) × (Nat → Int32)) (fun fu i s => wL_load_2 post code (nI d) fu (nI i) dm st ct br cl a1 a2 a3 a4 a5 a6 a7 a8 a9 s.1 s.2.1 s.2.2 a13) (fun i s => cv_W n a2 s.1 s.2.1 s.2.2 ∧ (∀ i', i' < i → s.2.1 (7 * i' + d) = cv_part code i') ∧ (∀ m, (∀ i', i' < 8 → m ≠ 7 * i' + d) → s.2.1 m = a11 m)) 8 0 (a10, a11, a12) (by omega) ⟨hW, fun j hj => absurd hj (by omega), fun m _ => rfl⟩ ?_ ?_
  · intro fu s hI
    exact pk_le 8 8 (fun _ => H _ _ _ hI.1 hI.2.1 hI.2.2) (fun z => absurd z (by omega))
  · intro fu i s hi hI hw
    have N : ∀ (b10 b11 b12 : Nat → Int32), cv_W n a2 b10 b11 b12 → b11 (7 * i + d) = cv_part code i → (∀ m, m ≠ 7 * i + d → b11 m = s.2.1 m) → wL_load_2 post code (nI d) fu (nI (i + 1)) dm st ct br cl a1 a2 a3 a4 a5 a6 a7 a8 a9 b10 b11 b12 a13 := by
      intro b10 b11 b12 h1 h2 h3
      refine hw (b10, b11, b12) ⟨h1, fun i' hi' => ?_, fun m hm => (h3 m (hm i hi)).trans (hI.2.2 m hm)⟩
      show b11 (7 * i' + d) = _
      by_cases e : i' = i
      · rw [e]
        exact h2
      · rw [h3 _ (by omega)]
        exact hI.2.1 i' (by omega)
    refine pk_le 8 i (fun z => absurd z (by omega)) (fun _ => cv_key (cv_partw ?_))
    refine br_c (fun hz => cv_delete (by omega) hI.1 (fun r b10 b11 b12 h1 h2 h3 => ?_)) (fun hz => cv_put (by omega) hz hI.1 (fun r b10 b11 b12 h1 h2 h3 => ?_))
    · exact nm_r (nI_1 i) (N b10 b11 b12 h1 (h2.trans hz.symm) h3)
    · exact nm_r (nI_1 i) (N b10 b11 b12 h1 h2 h3)
end
end
section
theorem cv_init {post : St2 → Prop} (H : ∀ (n : Nat) (b1 b2 b3 b4 b5 b12 : Nat → Int32), n ≤ 1 → cv_K n b1 b2 b3 b4 → cv_W n b2 (fun _ => 0) (fun _ => 0) b12 → cv_R n b2 b5 0 (fun _ => 0) → post (0, nI n, nI 1, nI 0, 0, b1, b2, b3, b4, b5, upd (fun _ => 0) 0 (-1), upd (fun _ => 0) 0 (-1), upd (fun _ => 0) 0 1, (fun _ => 0), (fun _ => 0), (fun _ => 0), b12, (fun _ => 0))) : wpX_init post 13 2024 (0, 0, 0, 0, 0) := by
  unfold wpX_init
  refine ⟨by omega, by omega, by omega, by omega, by omega, by omega, by omega, by omega, by omega, by omega, by omega, by omega, by omega, by omega, by omega, by omega, by omega, by omega, by omega, by omega, by omega, by omega, by omega, by omega, by omega, by omega, ?_⟩
  refine pk_loop (fun fu i s => wX_init_113 post 13 2024 13 2024 0 0 0 0 0 fu (nI i) (fun _ => 0) (fun _ => 0) (fun _ => 0) s (fun _ => 0) (fun _ => 0) (fun _ => 0) (fun _ => 0) (fun _ => 0) (fun _ => 0) (fun _ => 0) (fun _ => 0) (fun _ => 0)) (fun i s => ∀ j, j < i → s j = -1) 32 0 (fun _ => 0) (by omega) (fun j hj => absurd hj (by omega)) ?_ ?_
  · intro fu s hs
    refine pk_le 32 32 (fun _ => ?_) (fun z => absurd z (by omega))
    refine cv_intern (n := 0) (by omega) ⟨fun k hk => absurd hk (by omega), fun k hk => absurd hk (by omega), fun h hh => Or.inl (hs h hh)⟩ cv_gd_0 (fun n' b1 b2 b3 b4 x h1 h2 h3 h4 h5 => ?_)
    refine pk_loop (σ := (Nat → Int32) × (Nat → Int32)) (fun fu i s => wX_init_139 post 13 2024 x 13 2024 0 (nI n') 0 0 0 fu (nI i) b1 b2 b3 b4 s.1 (fun _ => 0) (fun _ => 0) (fun _ => 0) (fun _ => 0) (fun _ => 0) (fun _ => 0) s.2 (fun _ => 0)) (fun i s => (∀ j, j < i → s.1 j = x) ∧ ∀ j, j < i → s.2 j = x) 8 0 (fun _ => 0, fun _ => 0) (by omega) ⟨fun j hj => absurd hj (by omega), fun j hj => absurd hj (by omega)⟩ ?_ ?_
    · intro fu s hs
      refine pk_le 8 8 (fun _ => nm_e (nm_e (nm_e (H n' b1 b2 b3 b4 s.1 s.2 (by omega) h3 ?_ ?_)))) (fun z => absurd z (by omega))
      · intro c hc
        rw [hs.2 c hc]
        exact ⟨cv_gd_0, Or.inr h5⟩
      · intro c hc
        rw [show 8 * 0 + c = c by omega, hs.1 c hc]
        exact h5
    · intro fu i s hi hI hw
      refine pk_le 8 i (fun z => absurd z (by omega)) (fun _ => And.intro (pk_in i 160 (by omega)) ?_)
      rw [nI_clamp (show i < 2 ^ 31 by omega)]
      exact nm_e (And.intro (pk_in i 8 hi) (nm_e (nm_r (nI_1 i) (hw (_, _) ⟨cv_fill0 (f := fun _ => x) rfl hI.1 rfl, cv_fill0 (f := fun _ => x) rfl hI.2 rfl⟩))))
  · intro fu i s hi hI hw
    refine pk_le 32 i (fun z => absurd z (by omega)) (fun _ => And.intro (pk_in i 32 hi) ?_)
    rw [nI_clamp (show i < 2 ^ 31 by omega)]
    exact nm_e (nm_r (nI_1 i) (hw _ (cv_fill0 (f := fun _ => -1) rfl hI rfl)))
section
variable {dm st ct br cl : Int32} {a1 a2 a3 a4 a5 a6 a7 a8 a9 a10 a11 a12 a13 : Nat → Int32}
theorem cv_settle {post : St2 → Prop} {n : Nat} (hn : n + 8 ≤ 168) (hK : cv_K n a1 a2 a3 a4) (hW : cv_W n a2 a10 a11 a12)
    (H : ∀ (dm' : Int32) (n' : Nat) (b1 b2 b3 b4 b12 b13 : Nat → Int32), n ≤ n' → n' ≤ n + 8 → cv_K n' b1 b2 b3 b4 → cv_ext n a2 b2 → (∀ c, c < 8 → cv_eq n' b2 (b12 c) (fun j => a11 (8 * c + j))) → post (dm', nI n', ct, br, cl, b1, b2, b3, b4, a5, a6, a7, a8, a9, a10, a11, b12, b13)) : wpX_settleWork post (dm, nI n, ct, br, cl, a1, a2, a3, a4, a5, a6, a7, a8, a9, a10, a11, a12, a13) := by
  unfold wpX_settleWork
  refine pk_loop (σ := Int32 × Nat × (Nat → Int32) × (Nat → Int32) × (Nat → Int32) × (Nat → Int32) × (Nat → Int32) × (Nat → Int32))
    (fun fu i s => wX_settleWork_2 post fu (nI i) s.1 (nI s.2.1) ct br cl s.2.2.1 s.2.2.2.1 s.2.2.2.2.1 s.2.2.2.2.2.1 a5 a6 a7 a8 a9 a10 a11 s.2.2.2.2.2.2.1 s.2.2.2.2.2.2.2)
    (fun i s => n ≤ s.2.1 ∧ s.2.1 ≤ n + i ∧ cv_K s.2.1 s.2.2.1 s.2.2.2.1 s.2.2.2.2.1 s.2.2.2.2.2.1 ∧ cv_ext n a2 s.2.2.2.1 ∧ cv_W s.2.1 s.2.2.2.1 a10 a11 s.2.2.2.2.2.2.1 ∧ ∀ c, c < i → cv_eq s.2.1 s.2.2.2.1 (s.2.2.2.2.2.2.1 c) (fun j => a11 (8 * c + j)))
    8 0 (dm, n, a1, a2, a3, a4, a12, a13) (by omega) ⟨Nat.le_refl n, Nat.le_refl n, hK, fun _ _ _ _ => rfl, hW, fun c hc => absurd hc (by omega)⟩ ?_ ?_
  · intro fu s ⟨h1, h2, h3, h4, _, h6⟩
    exact pk_le 8 8 (fun _ => H _ _ _ _ _ _ _ _ h1 h2 h3 h4 h6) (fun z => absurd z (by omega))
  · intro fu i ⟨dm', n', b1, b2, b3, b4, b12, b13⟩ hi ⟨h1, h2, h3, h4, h5, h6⟩ hw
    dsimp only at h1 h2 h3 h4 h5 h6
    refine pk_le 8 i (fun z => absurd z (by omega)) (fun _ => And.intro (pk_in i 8 hi) ?_)
    rw [nI_clamp (show i < 2 ^ 31 by omega)]
    refine br_c (fun hz => And.intro (pk_in i 8 hi) (nm_e ?_)) (fun hz => nm_r (nI_1 i) (hw (dm', n', b1, b2, b3, b4, b12, b13) ⟨h1, by dsimp only; omega, h3, h4, h5, fun c hc => ?_⟩))
    · refine pk_loop (fun fu' k s => wX_settleWork_30 post (wX_settleWork_2 post fu) (nI i) (a10 i) (nI n') ct br cl fu' (nI k) b1 b2 b3 b4 a5 a6 a7 a8 a9 a10 a11 b12 s) (fun k s => ∀ j, j < k → s j = a11 (8 * i + j)) 8 0 b13 (by omega) (fun j hj => absurd hj (by omega)) ?_ ?_
      · intro fu' s hs
        refine pk_le 8 8 (fun _ => cv_jntern (by omega) h3 (cv_gd_congr (h5 i hi).1 hs) (fun n2 c1 c2 c3 c4 x g1 g2 g3 g4 g5 => ?_)) (fun z => absurd z (by omega))
        refine And.intro (pk_in i 8 hi) ?_
        rw [nI_clamp (show i < 2 ^ 31 by omega)]
        have gx : cv_eq n2 c2 x (fun j => a11 (8 * i + j)) := cv_eq_congr g5 (fun j hj => (hs j hj).symm)
        refine nm_e (nm_r (nI_1 i) (hw (a10 i, n2, c1, c2, c3, c4, upd b12 i x, s) ⟨by dsimp only; omega, by dsimp only; omega, g3, cv_ext_trans h4 g4 h1, fun c hc => ?_, fun c hc => ?_⟩))
        · by_cases e : c = i
          · subst e
            dsimp only
            rw [pk_us]
            exact ⟨(h5 c hc).1, Or.inr gx⟩
          · dsimp only
            rw [pk_un e]
            exact cv_W_mono h5 g1 g4 c hc
        · by_cases e : c = i
          · subst e
            dsimp only
            rw [pk_us]
            exact gx
          · dsimp only
            rw [pk_un e]
            exact cv_eq_mono (h6 c (by omega)) g1 g4
      · intro fu' k s hk hI hw'
        refine pk_le 8 k (fun z => absurd z (by omega)) (fun _ => And.intro (pk_in (8 * i + k) 64 (by omega) (cv_ix i k)) (And.intro (pk_in k 8 hk) ?_))
        rw [cv_ixc (by omega), nI_clamp (show k < 2 ^ 31 by omega)]
        exact nm_e (nm_r (nI_1 k) (hw' _ (cv_fill0 (f := fun j => a11 (8 * i + j)) rfl hI rfl)))
    · by_cases e : c = i
      · subst e
        exact (h5 c hi).2.resolve_left hz
      · exact h6 c (by omega)
theorem cv_e72 {post : St2 → Prop} {t b : Nat} (hb : b < 4) (H : post (dm, st, nI (t + 1), nI b, cl, a1, a2, a3, a4, a5, a6, a7, a8, upd a9 b (nI t), a10, a11, a12, a13)) : wX_enter_72 post dm st (nI t) (nI b) cl a1 a2 a3 a4 a5 a6 a7 a8 a9 a10 a11 a12 a13 := by
  unfold wX_enter_72
  refine And.intro (pk_in b 4 hb) ?_
  rw [nI_clamp (show b < 2 ^ 31 by omega)]
  exact nm_e (nm_r (nI_1 t) H)
theorem cv_enter1 {post : St2 → Prop} {t b f : Nat} (ht : t < 20) (hb : b < 4) (hf : f < 20) (H : post (dm, st, nI (t + 1), nI b, cl, a1, a2, a3, a4, a5, upd a6 t (nI f), upd a7 t (-1), upd a8 t (a8 f ||| ((1 : Int32) <<< (nI t &&& 31))), upd a9 b (nI t), a10, a11, a12, a13)) : wpX_enter post (dm, st, nI t, nI b, cl, a1, a2, a3, a4, a5, a6, a7, a8, a9, a10, a11, a12, a13) (nI f) (-1) := by
  unfold wpX_enter
  refine And.intro (pk_in t 20 ht) ?_
  rw [nI_clamp (show t < 2 ^ 31 by omega), nI_clamp (show f < 2 ^ 31 by omega)]
  exact nm_e (And.intro (pk_in t 20 ht) (nm_e (And.intro (pk_in f 20 hf) (And.intro (pk_in t 20 ht) (nm_e (br_t rfl (cv_e72 hb H)))))))
theorem cv_enter2 {post : St2 → Prop} {t b f g : Nat} (ht : t < 20) (hb : b < 4) (hf : f < 20) (hg : g < t) (H : post (dm, st, nI (t + 1), nI b, cl, a1, a2, a3, a4, a5, upd a6 t (nI f), upd a7 t (nI g), upd (upd a8 t (a8 f ||| ((1 : Int32) <<< (nI t &&& 31)))) t ((a8 f ||| ((1 : Int32) <<< (nI t &&& 31))) ||| a8 g), upd a9 b (nI t), a10, a11, a12, a13)) : wpX_enter post (dm, st, nI t, nI b, cl, a1, a2, a3, a4, a5, a6, a7, a8, a9, a10, a11, a12, a13) (nI f) (nI g) := by
  unfold wpX_enter
  refine And.intro (pk_in t 20 ht) ?_
  rw [nI_clamp (show t < 2 ^ 31 by omega), nI_clamp (show f < 2 ^ 31 by omega), nI_clamp (show g < 2 ^ 31 by omega)]
  have ne : ¬ nI g = -1 := by
    intro z
    exact absurd (show nI g < 0 by rw [z]; decide) (nI_pos (by omega))
  refine nm_e (And.intro (pk_in t 20 ht) (nm_e (And.intro (pk_in f 20 hf) (And.intro (pk_in t 20 ht) (nm_e (br_f ne (And.intro (pk_in t 20 ht) (And.intro (pk_in g 20 (by omega)) (And.intro (pk_in t 20 ht) ?_)))))))))
  rw [pk_us, pk_un (show g ≠ t by omega)]
  exact nm_e (cv_e72 hb H)
theorem cv_commit {post : Int32 → St2 → Prop} {n t b f : Nat} {M : Nat → Nat → Int32} (hn : n + 8 ≤ 168) (ht : t < 20) (hb : b < 4) (hf : f < 20) (h9 : a9 b = nI f) (hI : cv_I n t M a1 a2 a3 a4 a5 a10 a11 a12)
    (H : ∀ (dm' : Int32) (n' : Nat) (b1 b2 b3 b4 b5 b12 b13 : Nat → Int32), n' ≤ n + 8 → cv_I n' (t + 1) (cv_up M t a11) b1 b2 b3 b4 b5 a10 a11 b12 → cv_cl b5 b12 t → post (nI t) (dm', nI n', nI (t + 1), nI b, cl, b1, b2, b3, b4, b5, upd a6 t (nI f), upd a7 t (-1), upd a8 t (a8 f ||| ((1 : Int32) <<< (nI t &&& 31))), upd a9 b (nI t), a10, a11, b12, b13)) : wpX_commit post (dm, nI n, nI t, nI b, cl, a1, a2, a3, a4, a5, a6, a7, a8, a9, a10, a11, a12, a13) := by
  unfold wpX_commit
  refine pk_eq t 20 (fun z => absurd z (by omega)) (fun _ => cv_settle hn hI.1 hI.2.2 (fun dm' n' b1 b2 b3 b4 b12 b13 h1 h2 h3 h4 h5 => ?_))
  refine pk_loop (fun fu i s => wX_commit_17 post dm' (nI n') (nI t) (nI b) cl fu (nI i) b1 b2 b3 b4 s a6 a7 a8 a9 a10 a11 b12 b13) (fun i s => (∀ j, j < i → s (8 * t + j) = b12 j) ∧ ∀ m, m < 8 * t → s m = a5 m) 8 0 a5 (by omega) ⟨fun j hj => absurd hj (by omega), fun m _ => rfl⟩ ?_ ?_
  · intro fu s hs
    refine pk_le 8 8 (fun _ => And.intro (pk_in b 4 hb) ?_) (fun z => absurd z (by omega))
    rw [nI_clamp (show b < 2 ^ 31 by omega), h9]
    refine cv_enter1 ht hb hf ?_
    show post (nI (t + 1) - 1) _
    rw [nI_pred]
    refine H dm' n' b1 b2 b3 b4 s b12 b13 h2 ⟨h3, fun i hi => ?_, fun c hc => ⟨(hI.2.2 c hc).1, Or.inr (h5 c hc)⟩⟩ (fun c hc => (hs.1 c hc).symm)
    by_cases e : i = t
    · subst e
      rw [cv_up_s]
      intro c hc
      rw [hs.1 c hc]
      exact h5 c hc
    · rw [cv_up_n M a11 e]
      intro c hc
      rw [hs.2 _ (by omega)]
      exact cv_eq_mono (hI.2.1 i (by omega) c hc) h1 h4
  · intro fu i s hi hI' hw
    refine pk_le 8 i (fun z => absurd z (by omega)) (fun _ => And.intro (pk_in i 8 hi) (And.intro (pk_in (8 * t + i) 160 (by omega) (cv_ix t i)) ?_))
    rw [cv_ixc (by omega), nI_clamp (show i < 2 ^ 31 by omega)]
    exact nm_e (nm_r (nI_1 i) (hw _ ⟨cv_fill rfl hI'.1 rfl, fun m hm => (pk_un (by omega)).trans (hI'.2 m hm)⟩))
end
end
section
theorem cv_isBranch {post : Int32 → Prop} {b : Nat} (hb : b < 4) (H : post 1) : wpX_isBranch post () (nI b) := by
  unfold wpX_isBranch
  exact pk_lt b 0 (fun z => absurd z (by omega)) (fun _ => pk_le 4 b (fun z => absurd z (by omega)) (fun _ => H))
theorem cv_ones {post : Int32 → Prop} {x : Int32} (H : post (nI (cv_cnt (cb_bt x) 8))) : wpX_ones post () x := by
  unfold wpX_ones
  refine pk_loop (fun fu i s => wX_ones_4 post x fu s (nI i)) (fun i s => s = nI (cv_cnt (cb_bt x) i)) 8 0 0 (by omega) rfl ?_ ?_
  · intro fu s hs
    subst hs
    exact pk_le 8 8 (fun _ => H) (fun z => absurd z (by omega))
  · intro fu i s hi hs hw
    subst hs
    refine pk_le 8 i (fun z => absurd z (by omega)) (fun _ => ?_)
    rw [cb_one x (by omega), cv_add1]
    exact nm_e (nm_r (nI_1 i) (hw _ rfl))
section
variable {dm st ct br cl : Int32} {a1 a2 a3 a4 a5 a6 a7 a8 a9 a10 a11 a12 a13 : Nat → Int32}
theorem cv_isCommit {post : Int32 → Prop} {t i : Nat} (hi : i < t) (ht : t ≤ 20) (H : post 1) : wpX_isCommit post (dm, st, nI t, br, cl, a1, a2, a3, a4, a5, a6, a7, a8, a9, a10, a11, a12, a13) (nI i) := by
  unfold wpX_isCommit
  exact pk_lt i 0 (fun z => absurd z (by omega)) (fun _ => pk_le t i (fun z => absurd z (by omega)) (fun _ => H))
theorem cv_branch {post : Int32 → St2 → Prop} {b b0 : Nat} (hb : b < 4) (hb0 : b0 < 4) (hne : b ≠ b0) (H : post (a9 b) (dm, st, ct, nI b0, cl, a1, a2, a3, a4, a5, a6, a7, a8, upd a9 b (a9 b0), a10, a11, a12, a13)) : wpX_branch post (dm, st, ct, nI b0, cl, a1, a2, a3, a4, a5, a6, a7, a8, a9, a10, a11, a12, a13) (nI b) := by
  unfold wpX_branch
  refine cv_isBranch hb (br_f (by decide) (pk_eq b b0 (fun z => absurd z hne) (fun _ => And.intro (pk_in b 4 hb) ?_)))
  rw [nI_clamp (show b < 2 ^ 31 by omega), nI_clamp (show b0 < 2 ^ 31 by omega)]
  exact nm_e (And.intro (pk_in b0 4 hb0) (And.intro (pk_in b 4 hb) (nm_e H)))
theorem cv_differs {post : Int32 → Prop} {c q : Nat} (hc : c < 8) (hq : q < 168) (H : ∀ r, post r) : wpX_differsFromWork post (dm, st, ct, br, cl, a1, a2, a3, a4, a5, a6, a7, a8, a9, a10, a11, a12, a13) (nI c) (nI q) := by
  unfold wpX_differsFromWork
  refine pk_loop (fun fu i s => wX_differsFromWork_5 post (nI c) (nI q) dm st ct br cl a1 a2 a3 a4 a5 a6 a7 a8 a9 a10 a11 a12 a13 fu s (nI i)) (fun _ _ => True) 8 0 0 (by omega) trivial ?_ ?_
  · intro fu s _
    exact pk_le 8 8 (fun _ => H s) (fun z => absurd z (by omega))
  · intro fu i s hi _ hw
    have G : ∀ z, wX_differsFromWork_39 post (wX_differsFromWork_5 post (nI c) (nI q) dm st ct br cl a1 a2 a3 a4 a5 a6 a7 a8 a9 a10 a11 a12 a13 fu) (nI c) (nI q) s (nI i) z dm st ct br cl a1 a2 a3 a4 a5 a6 a7 a8 a9 a10 a11 a12 a13 := by
      intro z
      unfold wX_differsFromWork_39
      exact br_c (fun _ => And.intro (pk_in (8 * c + i) 64 (by omega) (cv_ix c i)) (And.intro (pk_in (8 * q + i) 1344 (by omega) (cv_ix q i)) (br_c (fun _ => nm_e (nm_r (nI_1 i) (hw _ trivial))) (fun _ => nm_e (nm_r (nI_1 i) (hw _ trivial)))))) (fun _ => nm_e (nm_r (nI_1 i) (hw _ trivial)))
    exact pk_le 8 i (fun z => absurd z (by omega)) (fun _ => And.intro (pk_in c 8 hc) (And.intro (pk_in q 168 hq) (br_c (fun _ => G 1) (fun _ => G 0))))
theorem cv_isClean {post : Int32 → Prop} {b h : Nat} (hb : b < 4) (hh : h < 20) (h9 : a9 b = nI h) (hc : cv_cl a5 a12 h) (H : post 1) : wpX_isClean post (dm, st, ct, nI b, cl, a1, a2, a3, a4, a5, a6, a7, a8, a9, a10, a11, a12, a13) := by
  unfold wpX_isClean
  refine And.intro (pk_in b 4 hb) ?_
  rw [nI_clamp (show b < 2 ^ 31 by omega), h9]
  refine nm_e (pk_loop (σ := Unit) (fun fu i _ => wX_isClean_12 post (nI h) dm st ct (nI b) cl a1 a2 a3 a4 a5 a6 a7 a8 a9 a10 a11 a12 a13 fu (nI i)) (fun _ _ => True) 8 0 () (by omega) trivial ?_ ?_)
  · intro fu s _
    exact pk_le 8 8 (fun _ => H) (fun z => absurd z (by omega))
  · intro fu i s hi _ hw
    refine pk_le 8 i (fun z => absurd z (by omega)) (fun _ => And.intro (pk_in (8 * h + i) 160 (by omega) (cv_ix h i)) ?_)
    rw [cv_ixc (by omega), nI_clamp (show i < 2 ^ 31 by omega)]
    exact nm_e (And.intro (pk_in i 8 hi) (br_t (hc i hi) (nm_r (nI_1 i) (hw () trivial))))
theorem cv_clean {post : Int32 → Prop} {b h : Nat} (hb : b < 4) (hh : h < 20) (h9 : a9 b = nI h) (hc : cv_cl a5 a12 h) (H : post 1) : wpX_clean post (dm, st, ct, nI b, cl, a1, a2, a3, a4, a5, a6, a7, a8, a9, a10, a11, a12, a13) := by
  unfold wpX_clean
  exact cv_isClean hb hh h9 hc (br_f (by decide) H)
theorem cv_take {post : St2 → Prop} {c q : Nat} (hc : c < 8) (hq : q < 168) (H : ∀ b11 : Nat → Int32, (∀ j, j < 8 → b11 (8 * c + j) = a2 (8 * q + j)) → (∀ k, k < 8 * c ∨ 8 * c + 8 ≤ k → b11 k = a11 k) → post (dm, st, ct, br, cl, a1, a2, a3, a4, a5, a6, a7, a8, a9, upd a10 c (a1 q), b11, upd a12 c (nI q), a13)) : wpX_takeChunk post (dm, st, ct, br, cl, a1, a2, a3, a4, a5, a6, a7, a8, a9, a10, a11, a12, a13) (nI c) (nI q) := by
  unfold wpX_takeChunk
  refine And.intro (pk_in q 168 hq) (And.intro (pk_in c 8 hc) ?_)
  rw [nI_clamp (show c < 2 ^ 31 by omega), nI_clamp (show q < 2 ^ 31 by omega)]
  refine nm_e (pk_loop (fun fu i s => wX_takeChunk_14 post (nI c) (nI q) dm st ct br cl fu (nI i) a1 a2 a3 a4 a5 a6 a7 a8 a9 (upd a10 c (a1 q)) s a12 a13) (fun i s => (∀ j, j < i → s (8 * c + j) = a2 (8 * q + j)) ∧ (∀ k, k < 8 * c ∨ 8 * c + 8 ≤ k → s k = a11 k)) 8 0 a11 (by omega) ⟨fun j hj => absurd hj (by omega), fun m _ => rfl⟩ ?_ ?_)
  · intro fu s hs
    refine pk_le 8 8 (fun _ => And.intro (pk_in c 8 hc) ?_) (fun z => absurd z (by omega))
    rw [nI_clamp (show c < 2 ^ 31 by omega)]
    exact nm_e (H s hs.1 hs.2)
  · intro fu i s hi hs hw
    refine pk_le 8 i (fun z => absurd z (by omega)) (fun _ => And.intro (pk_in (8 * q + i) 1344 (by omega) (cv_ix q i)) (And.intro (pk_in (8 * c + i) 64 (by omega) (cv_ix c i)) ?_))
    rw [cv_ixc (by omega), cv_ixc (by omega)]
    exact nm_e (nm_r (nI_1 i) (hw _ ⟨cv_fill (f := fun j => a2 (8 * q + j)) rfl hs.1 rfl, fun k hk => (pk_un (by omega)).trans (hs.2 k hk)⟩))
theorem cv_checkout {post : Int32 → St2 → Prop} {n t i : Nat} {M : Nat → Nat → Int32} (hn : n ≤ 168) (ht : t ≤ 20) (hi : i < t) (hI : cv_I n t M a1 a2 a3 a4 a5 a10 a11 a12)
    (H : ∀ (r : Int32) (b10 b11 b12 : Nat → Int32), cv_I n t M a1 a2 a3 a4 a5 b10 b11 b12 → cv_cl a5 b12 i → (∀ k, k < 64 → b11 k = M i k) → post r (dm, st, nI t, br, cl, a1, a2, a3, a4, a5, a6, a7, a8, a9, b10, b11, b12, a13)) : wpX_checkout post (dm, st, nI t, br, cl, a1, a2, a3, a4, a5, a6, a7, a8, a9, a10, a11, a12, a13) (nI i) := by
  unfold wpX_checkout
  refine cv_isCommit hi ht (br_f (by decide) ?_)
  refine pk_loop (σ := Int32 × (Nat → Int32) × (Nat → Int32) × (Nat → Int32)) (fun fu c s => wX_checkout_14 post (nI i) fu s.1 (nI c) dm st (nI t) br cl a1 a2 a3 a4 a5 a6 a7 a8 a9 s.2.1 s.2.2.1 s.2.2.2 a13)
    (fun c s => cv_W n a2 s.2.1 s.2.2.1 s.2.2.2 ∧ (∀ c', c' < c → s.2.2.2 c' = a5 (8 * i + c')) ∧ ∀ k, k < 8 * c → s.2.2.1 k = M i k) 8 0 (0, a10, a11, a12) (by omega) ⟨hI.2.2, fun j hj => absurd hj (by omega), fun j hj => absurd hj (by omega)⟩ ?_ ?_
  · intro fu s hs
    exact pk_le 8 8 (fun _ => H s.1 _ _ _ ⟨hI.1, hI.2.1, hs.1⟩ hs.2.1 hs.2.2) (fun z => absurd z (by omega))
  · intro fu c ⟨r, b10, b11, b12⟩ hc ⟨h1, h2, h3⟩ hw
    dsimp only at h1 h2 h3
    refine pk_le 8 c (fun z => absurd z (by omega)) (fun _ => And.intro (pk_in (8 * i + c) 160 (by omega) (cv_ix i c)) ?_)
    rw [cv_ixc (by omega), nI_clamp (show c < 2 ^ 31 by omega)]
    obtain ⟨q, hq, eq, hM⟩ := hI.2.1 i hi c hc
    dsimp only at hM
    refine nm_e (And.intro (pk_in c 8 hc) (br_c (fun hz => nm_r (nI_1 c) (hw (r, b10, b11, b12) ⟨h1, ?_, ?_⟩)) (fun hz => ?_)))
    · intro c' hc'
      by_cases e : c' = c
      · rw [e]
        exact hz
      · exact h2 c' (by omega)
    · intro k hk
      dsimp only at hz ⊢
      by_cases e : k < 8 * c
      · exact h3 k e
      · have hne : ¬ b12 c = -1 := by
          intro z
          rw [hz, eq] at z
          exact absurd (show nI q < 0 by rw [z]; decide) (nI_pos (by omega))
        obtain ⟨q', hq', eq', hv⟩ := (h1 c hc).2.resolve_left hne
        rw [hz, eq, nI_eq (by omega) (by omega)] at eq'
        subst eq'
        have t1 := hv (k - 8 * c) (by omega)
        have t2 := hM (k - 8 * c) (by omega)
        dsimp only at t1
        rw [show 8 * c + (k - 8 * c) = k by omega] at t1 t2
        rw [← t1, t2]
    · rw [eq]
      refine cv_differs hc (by omega) (fun r' => nm_e (cv_take hc (by omega) (fun c11 g1 g2 => ?_)))
      have g3 : ∀ j, j < 8 → (fun j => c11 (8 * c + j)) j = (fun j => a2 (8 * q + j)) j := g1
      refine nm_r (nI_1 c) (hw (r + r', upd b10 c (a1 q), c11, upd b12 c (nI q)) ⟨cv_W_upd h1 g2 (cv_gd_congr (hI.1.1 q hq) g3) (Or.inr ⟨q, hq, rfl, fun j hj => (g1 j hj).symm⟩), ?_, ?_⟩)
      · intro c' hc'
        dsimp only
        by_cases e : c' = c
        · rw [e, pk_us, eq]
        · rw [pk_un e]
          exact h2 c' (by omega)
      · intro k hk
        dsimp only
        by_cases e : k < 8 * c
        · rw [g2 k (Or.inl e)]
          exact h3 k e
        · have t1 := g1 (k - 8 * c) (by omega)
          have t2 := hM (k - 8 * c) (by omega)
          rw [show 8 * c + (k - 8 * c) = k by omega] at t1 t2
          rw [t1, t2]
theorem cv_change {post : Int32 → St2 → Prop} {n t b b0 h p : Nat} {M : Nat → Nat → Int32} (hn : n ≤ 168) (ht : t ≤ 20) (hb : b < 4) (hb0 : b0 < 4) (h0 : a9 b0 = nI h) (hh : h < 20) (hc : cv_cl a5 a12 h) (hp : a9 b = nI p) (hpt : p < t) (hI : cv_I n t M a1 a2 a3 a4 a5 a10 a11 a12)
    (H : ∀ b10 b11 b12 : Nat → Int32, cv_I n t M a1 a2 a3 a4 a5 b10 b11 b12 → cv_cl a5 b12 p → (∀ k, k < 64 → b11 k = M p k) → post (nI p) (dm, st, nI t, nI b, cl, a1, a2, a3, a4, a5, a6, a7, a8, a9, b10, b11, b12, a13)) : wpX_change post (dm, st, nI t, nI b0, cl, a1, a2, a3, a4, a5, a6, a7, a8, a9, a10, a11, a12, a13) (nI b) := by
  unfold wpX_change
  refine cv_isBranch hb (br_f (by decide) (cv_isClean hb0 hh h0 hc (br_f (by decide) (And.intro (pk_in b 4 hb) ?_))))
  rw [nI_clamp (show b < 2 ^ 31 by omega), hp]
  refine cv_checkout hn ht hpt hI (fun r b10 b11 b12 h1 h2 h3 => And.intro (pk_in b 4 hb) ?_)
  rw [hp]
  exact H b10 b11 b12 h1 h2 h3
theorem cv_baseOf {post : Int32 → Prop} {p q o : Nat} {X : Int32} (hp : p < 20) (hq : q < 20) (hX : a8 p &&& a8 q = X) (ho1 : o ≤ p) (ho2 : o ≤ q) (hb : cb_bt X o = true) (hz : ∀ k, k < 20 → o < k → k ≤ p → k ≤ q → cb_bt X k = false) (H : post (nI o)) : wpX_baseOf post (dm, st, ct, br, cl, a1, a2, a3, a4, a5, a6, a7, a8, a9, a10, a11, a12, a13) (nI p) (nI q) := by
  have L : ∀ d, (∀ k, o < k → k ≤ o + d → cb_bt X k = false) → o + d < 20 → wX_baseOf_26 post X dm st ct br cl a1 a2 a3 a4 a5 a6 a7 a8 a9 a10 a11 a12 a13 (d + 1) (nI (o + d)) := by
    intro d
    induction d with
    | zero =>
      intro _ hl
      refine pk_le o 0 (fun _ => H) (fun z => br_f ?_ H)
      show ¬ (X >>> (nI o &&& 31)) &&& 1 = 0
      rw [cb_one0 _ (by omega), hb]
      simp
    | succ d ih =>
      intro hz hl
      refine pk_le (o + (d + 1)) 0 (fun z => absurd z (by omega)) (fun _ => br_t ?_ (nm_r (pk_m1 (o + d)) (ih (fun k h1 h2 => hz k h1 (by omega)) (by omega))))
      rw [cb_one0 _ (by omega)]
      exact hz _ (by omega) (by omega)
  unfold wpX_baseOf
  refine And.intro (pk_in p 20 hp) (And.intro (pk_in q 20 hq) ?_)
  rw [nI_clamp (show p < 2 ^ 31 by omega), nI_clamp (show q < 2 ^ 31 by omega)]
  refine nm_r hX (pk_le q p (fun z => ⟨(q - o) + 1, ?_⟩) (fun z => ⟨(p - o) + 1, ?_⟩))
  · have t := L (q - o) (fun k h1 h2 => hz k (by omega) h1 (by omega) (by omega)) (by omega)
    rw [show o + (q - o) = q by omega] at t
    exact t
  · have t := L (p - o) (fun k h1 h2 => hz k (by omega) h1 (by omega) (by omega)) (by omega)
    rw [show o + (p - o) = p by omega] at t
    exact t
theorem cv_base {post : Int32 → Prop} {t p q o : Nat} {X : Int32} (ht : t ≤ 20) (hp : p < t) (hq : q < t) (hX : a8 p &&& a8 q = X) (ho1 : o ≤ p) (ho2 : o ≤ q) (hb : cb_bt X o = true) (hz : ∀ k, k < 20 → o < k → k ≤ p → k ≤ q → cb_bt X k = false) (H : post (nI o)) : wpX_base post (dm, st, nI t, br, cl, a1, a2, a3, a4, a5, a6, a7, a8, a9, a10, a11, a12, a13) (nI p) (nI q) := by
  unfold wpX_base
  exact cv_isCommit hp ht (br_f (by decide) (cv_isCommit hq ht (br_f (by decide) (cv_baseOf (by omega) (by omega) hX ho1 ho2 hb hz H))))
theorem cv_head {post : Int32 → Prop} {b : Nat} (hb : b < 4) (H : post (a9 b)) : wpX_head post (dm, st, ct, br, cl, a1, a2, a3, a4, a5, a6, a7, a8, a9, a10, a11, a12, a13) (nI b) := by
  unfold wpX_head
  refine cv_isBranch hb (br_f (by decide) (And.intro (pk_in b 4 hb) ?_))
  rw [nI_clamp (show b < 2 ^ 31 by omega)]
  exact H
theorem cv_parent {post : Int32 → Prop} {t i p : Nat} {z : Int32} (ht : t ≤ 20) (hi : i < t) (hp : p < 20) (h0 : z = 0 → a6 i = nI p) (h1 : ¬ z = 0 → a7 i = nI p) (H : post (nI p)) : wpX_parent post (dm, st, nI t, br, cl, a1, a2, a3, a4, a5, a6, a7, a8, a9, a10, a11, a12, a13) (nI i) z := by
  have ne : ¬ nI p = -1 := by
    intro z
    exact absurd (show nI p < 0 by rw [z]; decide) (nI_pos (by omega))
  unfold wpX_parent
  refine cv_isCommit hi ht (br_f (by decide) ?_)
  rw [nI_clamp (show i < 2 ^ 31 by omega)]
  refine br_c (fun e => And.intro (pk_in i 20 (by omega)) ?_) (fun e => And.intro (pk_in i 20 (by omega)) ?_)
  · rw [h0 e]
    exact br_f ne H
  · rw [h1 e]
    exact br_f ne H
theorem cv_ancestors {post : Int32 → Prop} {t i : Nat} {X : Int32} (ht : t ≤ 20) (hi : i < t) (hX : a8 i = X) (H : post (nI (cv_cnt (cb_bt X) 20))) : wpX_ancestors post (dm, st, nI t, br, cl, a1, a2, a3, a4, a5, a6, a7, a8, a9, a10, a11, a12, a13) (nI i) := by
  unfold wpX_ancestors
  refine cv_isCommit hi ht (br_f (by decide) ?_)
  refine pk_loop (fun fu k s => wX_ancestors_14 post (nI i) dm st (nI t) br cl a1 a2 a3 a4 a5 a6 a7 a8 a9 a10 a11 a12 a13 fu s (nI k)) (fun k s => s = nI (cv_cnt (cb_bt X) k)) 20 0 0 (by omega) rfl ?_ ?_
  · intro fu s hs
    subst hs
    exact pk_le 20 20 (fun _ => H) (fun z => absurd z (by omega))
  · intro fu k s hk hs hw
    subst hs
    refine pk_le 20 k (fun z => absurd z (by omega)) (fun _ => And.intro (pk_in i 20 (by omega)) ?_)
    rw [nI_clamp (show i < 2 ^ 31 by omega), hX, cb_one X (by omega), cv_add1]
    exact nm_e (nm_r (nI_1 k) (hw _ rfl))
theorem cv_value {post : Int32 → Prop} {k : Nat} (hk : k < 64) (H : post (a11 k)) : wpX_value post (dm, st, ct, br, cl, a1, a2, a3, a4, a5, a6, a7, a8, a9, a10, a11, a12, a13) (nI k) := by
  unfold wpX_value
  refine cv_isKey hk (br_f (by decide) (And.intro (pk_in k 64 hk) ?_))
  rw [nI_clamp (show k < 2 ^ 31 by omega)]
  exact H
theorem cv_has {post : Int32 → Prop} {n k : Nat} (hk : k < 64) (hW : cv_W n a2 a10 a11 a12) (H : post (if a11 k = 0 then 0 else 1)) : wpX_has post (dm, st, ct, br, cl, a1, a2, a3, a4, a5, a6, a7, a8, a9, a10, a11, a12, a13) (nI k) := by
  obtain ⟨c, j, hc, hj, e⟩ := cv_split hk
  subst e
  unfold wpX_has
  refine cv_isKey hk (br_f (by decide) ?_)
  rw [cv_sh3 hc hj, cv_a7 hc hj, nI_clamp (show c < 2 ^ 31 by omega), cb_one _ (by omega), (hW c hc).1 j (by omega), decide_eq_true hj, Bool.true_and]
  refine And.intro (pk_in c 8 hc) ?_
  by_cases z : a11 (8 * c + j) = 0
  · rw [if_pos z] at H
    rw [if_neg (by simp [z])]
    exact H
  · rw [if_neg z] at H
    rw [if_pos (by simp [z])]
    exact H
end
end
section
/-- three values that all differ -/
def cv_ck (o x y : Int32) : Bool := (decide (¬ x = y) && decide (¬ x = o)) && decide (¬ y = o)
/-- the merged value -/
def cv_mg (s o x y : Int32) : Int32 := if x = y then x else if y = o then x else if x = o then y else if s = 1 then y else x
/-- taken from the other side -/
def cv_ft (s o x y : Int32) : Bool := (decide (¬ y = o) && decide (x = o)) || (decide (s = 1) && cv_ck o x y)
theorem cv_mg_ft (s o x y : Int32) : cv_mg s o x y = if cv_ft s o x y = true then y else x := by
  unfold cv_mg cv_ft cv_ck
  by_cases h1 : x = y
  · subst h1
    simp
  · by_cases h2 : y = o
    · simp [h1, h2]
    · by_cases h3 : x = o
      · simp [h1, h2, h3]
      · by_cases h4 : s = 1
        · simp [h1, h2, h3, h4]
        · simp [h1, h2, h3, h4]
def cv_D (a2 : Nat → Int32) (a b : Nat) (r : Int32) : Prop := ∀ i, i < 32 → cb_bt r i = (decide (i < 8) && decide (¬ a2 (8 * a + i) = a2 (8 * b + i)))
theorem cv_cntstep {p : Nat → Bool} {r : Int32} {i : Nat} (h : ∀ j, j < 8 → cb_bt r j = p (8 * i + j)) : nI (cv_cnt p (8 * i)) + nI (cv_cnt (cb_bt r) 8) = nI (cv_cnt p (8 * (i + 1))) := by
  rw [nI_add, show 8 * (i + 1) = 8 * i + 8 by omega, cv_cnt_add, cv_cnt_congr h]
section
variable {dm st ct br cl : Int32} {a1 a2 a3 a4 a5 a6 a7 a8 a9 a10 a11 a12 a13 : Nat → Int32}
theorem cv_diff {post : Int32 → Prop} {n a b : Nat} (hn : n ≤ 168) (hK : cv_K n a1 a2 a3 a4) (ha : a < n) (hb : b < n) (H : ∀ r, cv_D a2 a b r → post r) : wpX_difference post (dm, st, ct, br, cl, a1, a2, a3, a4, a5, a6, a7, a8, a9, a10, a11, a12, a13) (nI a) (nI b) := by
  unfold wpX_difference
  refine pk_eq a b (fun e => H 0 (fun i hi => ?_)) (fun _ => And.intro (pk_in a 168 (by omega)) (And.intro (pk_in b 168 (by omega)) ?_))
  · rw [cb_0, e]
    simp
  · rw [nI_clamp (show a < 2 ^ 31 by omega), nI_clamp (show b < 2 ^ 31 by omega)]
    refine nm_e (pk_loop (fun fu i s => wX_difference_24 post (nI a) (nI b) dm st ct br cl a1 a2 a3 a4 a5 a6 a7 a8 a9 a10 a11 a12 a13 fu s (nI i)) (fun i s => ∀ k, k < 32 → cb_bt s k = (cb_bt (a1 a ^^^ a1 b) k || (decide (k < i) && decide (¬ a2 (8 * a + k) = a2 (8 * b + k))))) 8 0 (a1 a ^^^ a1 b) (by omega) (fun k _ => by simp) ?_ ?_)
    · intro fu s hs
      refine pk_le 8 8 (fun _ => H s (fun k hk => ?_)) (fun z => absurd z (by omega))
      rw [hs k hk, cb_xor, hK.1 a ha k hk, hK.1 b hb k hk]
      by_cases z : k < 8
      · by_cases e : a2 (8 * a + k) = a2 (8 * b + k)
        · simp [z, e]
        · simp [z, e]
      · simp [z]
    · intro fu i s hi hs hw
      refine pk_le 8 i (fun z => absurd z (by omega)) (fun _ => And.intro (pk_in (8 * a + i) 1344 (by omega) (cv_ix a i)) (And.intro (pk_in (8 * b + i) 1344 (by omega) (cv_ix b i)) ?_))
      rw [cv_ixc (by omega), cv_ixc (by omega)]
      refine br_c (fun e => nm_r (nI_1 i) (hw s (fun k hk => ?_))) (fun e => nm_e (nm_r (nI_1 i) (hw _ (fun k hk => ?_))))
      · rw [hs k hk]
        by_cases z : k = i
        · subst z
          simp [e]
        · rw [show decide (k < i + 1) = decide (k < i) from decide_eq_decide.mpr (by omega)]
      · rw [cb_or, cb_bit i (by omega) hk, hs k hk]
        by_cases z : k = i
        · subst z
          simp [e]
        · rw [decide_eq_false z, Bool.or_false, show decide (k < i + 1) = decide (k < i) from decide_eq_decide.mpr (by omega)]
theorem cv_clashIn {post : Int32 → Prop} {n o a b : Nat} (hn : n ≤ 168) (hK : cv_K n a1 a2 a3 a4) (ho : o < n) (ha : a < n) (hb : b < n) (H : ∀ r, (∀ i, i < 32 → cb_bt r i = (decide (i < 8) && cv_ck (a2 (8 * o + i)) (a2 (8 * a + i)) (a2 (8 * b + i)))) → post r) : wpX_clashesIn post (dm, st, ct, br, cl, a1, a2, a3, a4, a5, a6, a7, a8, a9, a10, a11, a12, a13) (nI o) (nI a) (nI b) := by
  unfold wpX_clashesIn
  refine cv_diff hn hK ha hb (fun r1 h1 => cv_diff hn hK ha ho (fun r2 h2 => cv_diff hn hK hb ho (fun r3 h3 => H _ (fun i hi => ?_))))
  rw [cb_and, cb_and, h1 i hi, h2 i hi, h3 i hi]
  unfold cv_ck
  by_cases z : i < 8
  · simp [z]
  · simp [z]
theorem cv_countC {post : Int32 → Prop} {n t o a b : Nat} {M : Nat → Nat → Int32} (hn : n ≤ 168) (ht : t ≤ 20) (hK : cv_K n a1 a2 a3 a4) (hR : ∀ i, i < t → cv_R n a2 a5 i (M i)) (ho : o < t) (ha : a < t) (hb : b < t) (H : post (nI (cv_cnt (fun k => cv_ck (M o k) (M a k) (M b k)) 64))) : wpX_countClashes post (dm, st, ct, br, cl, a1, a2, a3, a4, a5, a6, a7, a8, a9, a10, a11, a12, a13) (nI o) (nI a) (nI b) := by
  unfold wpX_countClashes
  refine pk_loop (fun fu i s => wX_countClashes_6 post (nI o) (nI a) (nI b) dm st ct br cl a1 a2 a3 a4 a5 a6 a7 a8 a9 a10 a11 a12 a13 fu s (nI i)) (fun i s => s = nI (cv_cnt (fun k => cv_ck (M o k) (M a k) (M b k)) (8 * i))) 8 0 0 (by omega) rfl ?_ ?_
  · intro fu s hs
    subst hs
    exact pk_le 8 8 (fun _ => H) (fun z => absurd z (by omega))
  · intro fu i s hi hs hw
    subst hs
    obtain ⟨qo, hqo, eo, vo⟩ := hR o ho i hi
    obtain ⟨qa, hqa, ea, va⟩ := hR a ha i hi
    obtain ⟨qb, hqb, eb, vb⟩ := hR b hb i hi
    refine pk_le 8 i (fun z => absurd z (by omega)) (fun _ => And.intro (pk_in (8 * o + i) 160 (by omega) (cv_ix o i)) (And.intro (pk_in (8 * a + i) 160 (by omega) (cv_ix a i)) (And.intro (pk_in (8 * b + i) 160 (by omega) (cv_ix b i)) ?_)))
    rw [pk_cl (8 * o + i) (cv_ix o i), pk_cl (8 * a + i) (cv_ix a i), pk_cl (8 * b + i) (cv_ix b i), eo, ea, eb]
    refine cv_clashIn hn hK hqo hqa hqb (fun r hr => cv_ones (nm_r (cv_cntstep (fun j hj => ?_)) (nm_r (nI_1 i) (hw _ rfl))))
    rw [hr j (by omega), decide_eq_true hj, Bool.true_and, vo j hj, va j hj, vb j hj]
theorem cv_conflicts {post : Int32 → Prop} {n t o a b : Nat} {M : Nat → Nat → Int32} {X : Int32} (hn : n ≤ 168) (ht : t ≤ 20) (hK : cv_K n a1 a2 a3 a4) (hR : ∀ i, i < t → cv_R n a2 a5 i (M i)) (ha : a < t) (hb : b < t) (hX : a8 a &&& a8 b = X) (ho1 : o ≤ a) (ho2 : o ≤ b) (hbt : cb_bt X o = true) (hz : ∀ k, k < 20 → o < k → k ≤ a → k ≤ b → cb_bt X k = false) (H : post (nI (cv_cnt (fun k => cv_ck (M o k) (M a k) (M b k)) 64))) : wpX_conflicts post (dm, st, nI t, br, cl, a1, a2, a3, a4, a5, a6, a7, a8, a9, a10, a11, a12, a13) (nI a) (nI b) := by
  unfold wpX_conflicts
  exact cv_isCommit ha ht (br_f (by decide) (cv_isCommit hb ht (br_f (by decide) (cv_baseOf (by omega) (by omega) hX ho1 ho2 hbt hz (cv_countC hn ht hK hR (by omega) ha hb H)))))
theorem cv_differing {post : Int32 → Prop} {n t a b : Nat} {M : Nat → Nat → Int32} (hn : n ≤ 168) (ht : t ≤ 20) (hK : cv_K n a1 a2 a3 a4) (hR : ∀ i, i < t → cv_R n a2 a5 i (M i)) (ha : a < t) (hb : b < t) (H : post (nI (cv_cnt (fun k => decide (¬ M a k = M b k)) 64))) : wpX_differing post (dm, st, nI t, br, cl, a1, a2, a3, a4, a5, a6, a7, a8, a9, a10, a11, a12, a13) (nI a) (nI b) := by
  unfold wpX_differing
  refine cv_isCommit ha ht (br_f (by decide) (cv_isCommit hb ht (br_f (by decide) ?_)))
  refine pk_loop (fun fu i s => wX_differing_23 post (nI a) (nI b) dm st (nI t) br cl a1 a2 a3 a4 a5 a6 a7 a8 a9 a10 a11 a12 a13 fu s (nI i)) (fun i s => s = nI (cv_cnt (fun k => decide (¬ M a k = M b k)) (8 * i))) 8 0 0 (by omega) rfl ?_ ?_
  · intro fu s hs
    subst hs
    exact pk_le 8 8 (fun _ => H) (fun z => absurd z (by omega))
  · intro fu i s hi hs hw
    subst hs
    obtain ⟨qa, hqa, ea, va⟩ := hR a ha i hi
    obtain ⟨qb, hqb, eb, vb⟩ := hR b hb i hi
    refine pk_le 8 i (fun z => absurd z (by omega)) (fun _ => And.intro (pk_in (8 * a + i) 160 (by omega) (cv_ix a i)) (And.intro (pk_in (8 * b + i) 160 (by omega) (cv_ix b i)) ?_))
    rw [pk_cl (8 * a + i) (cv_ix a i), pk_cl (8 * b + i) (cv_ix b i), ea, eb]
    refine cv_diff hn hK hqa hqb (fun r hr => cv_ones (nm_r (cv_cntstep (fun j hj => ?_)) (nm_r (nI_1 i) (hw _ rfl))))
    rw [hr j (by omega), decide_eq_true hj, Bool.true_and, va j hj, vb j hj]
theorem cv_joinC {post : Int32 → St2 → Prop} {n o a b k : Nat} {s : Int32} (hn : n < 168) (hK : cv_K n a1 a2 a3 a4) (ho : o < n) (ha : a < n) (hb : b < n)
    (H : ∀ (dm' : Int32) (n' : Nat) (b1 b2 b3 b4 b13 : Nat → Int32) (x : Int32), n ≤ n' → n' ≤ n + 1 → cv_K n' b1 b2 b3 b4 → cv_ext n a2 b2 → cv_eq n' b2 x (fun j => cv_mg s (a2 (8 * o + j)) (a2 (8 * a + j)) (a2 (8 * b + j))) → post x (dm', nI n', ct, br, nI (k + cv_cnt (fun j => cv_ck (a2 (8 * o + j)) (a2 (8 * a + j)) (a2 (8 * b + j))) 8), b1, b2, b3, b4, a5, a6, a7, a8, a9, a10, a11, a12, b13)) : wpX_joinChunks post (dm, nI n, ct, br, nI k, a1, a2, a3, a4, a5, a6, a7, a8, a9, a10, a11, a12, a13) (nI o) (nI a) (nI b) s := by
  have G : ∀ (r1 z : Int32), (∀ i, i < 32 → cb_bt r1 i = (decide (i < 8) && cv_ck (a2 (8 * o + i)) (a2 (8 * a + i)) (a2 (8 * b + i)))) → (∀ i, i < 32 → cb_bt z i = (decide (i < 8) && cv_ft s (a2 (8 * o + i)) (a2 (8 * a + i)) (a2 (8 * b + i)))) → wX_joinChunks_42 post (nI a) (nI b) r1 z dm (nI n) ct br (nI k) a1 a2 a3 a4 a5 a6 a7 a8 a9 a10 a11 a12 a13 := by
    intro r1 z h1 h2
    have e1 : nI k + nI (cv_cnt (cb_bt r1) 8) = nI (k + cv_cnt (fun j => cv_ck (a2 (8 * o + j)) (a2 (8 * a + j)) (a2 (8 * b + j))) 8) := by
      rw [nI_add, cv_cnt_congr (q := fun j => cv_ck (a2 (8 * o + j)) (a2 (8 * a + j)) (a2 (8 * b + j))) (fun j hj => by rw [h1 j (by omega), decide_eq_true hj, Bool.true_and])]
    unfold wX_joinChunks_42
    refine cv_ones (nm_r e1 (And.intro (pk_in a 168 (by omega)) (And.intro (pk_in b 168 (by omega)) ?_)))
    rw [nI_clamp (show a < 2 ^ 31 by omega), nI_clamp (show b < 2 ^ 31 by omega)]
    refine nm_e (pk_loop (fun fu i s' => wX_joinChunks_86 post (nI a) (nI b) z ((a1 a &&& (z ^^^ (-1))) ||| (a1 b &&& z)) (nI n) ct br (nI (k + cv_cnt (fun j => cv_ck (a2 (8 * o + j)) (a2 (8 * a + j)) (a2 (8 * b + j))) 8)) fu (nI i) a1 a2 a3 a4 a5 a6 a7 a8 a9 a10 a11 a12 s') (fun i s' => ∀ j, j < i → s' j = cv_mg s (a2 (8 * o + j)) (a2 (8 * a + j)) (a2 (8 * b + j))) 8 0 a13 (by omega) (fun j hj => absurd hj (by omega)) ?_ ?_)
    · intro fu s' hs
      refine pk_le 8 8 (fun _ => cv_intern hn hK (fun i hi => ?_) (fun n' b1 b2 b3 b4 x g1 g2 g3 g4 g5 => ?_)) (fun z => absurd z (by omega))
      · rw [cb_or, cb_and, cb_and, cb_not _ hi, hK.1 a ha i hi, hK.1 b hb i hi, h2 i hi]
        by_cases w : i < 8
        · rw [hs i w, cv_mg_ft, decide_eq_true w]
          cases cv_ft s (a2 (8 * o + i)) (a2 (8 * a + i)) (a2 (8 * b + i))
          · simp
          · simp
        · simp [w]
      · exact H _ n' b1 b2 b3 b4 s' x g1 g2 g3 g4 (cv_eq_congr g5 (fun j hj => (hs j hj).symm))
    · intro fu i s' hi hs hw
      refine pk_le 8 i (fun z => absurd z (by omega)) (fun _ => br_c (fun e => br_f (by decide) (And.intro (pk_in (8 * b + i) 1344 (by omega) (cv_ix b i)) (And.intro (pk_in i 8 hi) ?_))) (fun e => br_t rfl (And.intro (pk_in (8 * a + i) 1344 (by omega) (cv_ix a i)) (And.intro (pk_in i 8 hi) ?_))))
      · rw [cv_ixc (by omega), nI_clamp (show i < 2 ^ 31 by omega)]
        rw [cb_one1 _ (by omega), h2 i (by omega), decide_eq_true hi, Bool.true_and] at e
        refine nm_e (nm_r (nI_1 i) (hw _ (cv_fill0 (f := fun j => cv_mg s (a2 (8 * o + j)) (a2 (8 * a + j)) (a2 (8 * b + j))) rfl hs ?_)))
        show a2 (8 * b + i) = cv_mg s (a2 (8 * o + i)) (a2 (8 * a + i)) (a2 (8 * b + i))
        rw [cv_mg_ft, if_pos e]
      · rw [cv_ixc (by omega), nI_clamp (show i < 2 ^ 31 by omega)]
        rw [cb_one1 _ (by omega), h2 i (by omega), decide_eq_true hi, Bool.true_and] at e
        refine nm_e (nm_r (nI_1 i) (hw _ (cv_fill0 (f := fun j => cv_mg s (a2 (8 * o + j)) (a2 (8 * a + j)) (a2 (8 * b + j))) rfl hs ?_)))
        show a2 (8 * a + i) = cv_mg s (a2 (8 * o + i)) (a2 (8 * a + i)) (a2 (8 * b + i))
        rw [cv_mg_ft, if_neg e]
  unfold wpX_joinChunks
  refine cv_clashIn (by omega) hK ho ha hb (fun r1 h1 => cv_diff (by omega) hK hb ho (fun r2 h2 => cv_diff (by omega) hK ha ho (fun r3 h3 => nm_e (br_c (fun hs => G r1 _ h1 (fun i hi => ?_)) (fun hs => G r1 _ h1 (fun i hi => ?_))))))
  · rw [cb_or, cb_and, cb_not _ hi, h2 i hi, h3 i hi, h1 i hi]
    unfold cv_ft
    by_cases w : i < 8
    · simp [w, hs]
    · simp [w]
  · rw [cb_and, cb_not _ hi, h2 i hi, h3 i hi]
    unfold cv_ft
    by_cases w : i < 8
    · simp [w, hs]
    · simp [w]
end
end
section
section
variable {dm st ct br cl : Int32} {a1 a2 a3 a4 a5 a6 a7 a8 a9 a10 a11 a12 a13 : Nat → Int32}
theorem cv_join {post : St2 → Prop} {n t o a b : Nat} {s : Int32} {M : Nat → Nat → Int32} (hn : n + 8 ≤ 168) (ht : t < 20) (hK : cv_K n a1 a2 a3 a4) (hR : ∀ i, i < t → cv_R n a2 a5 i (M i)) (ho : o < t) (ha : a < t) (hb : b < t)
    (H : ∀ (dm' : Int32) (n' : Nat) (b1 b2 b3 b4 b5 b13 : Nat → Int32), n ≤ n' → n' ≤ n + 8 → cv_K n' b1 b2 b3 b4 → cv_ext n a2 b2 → (∀ m, m < 8 * t → b5 m = a5 m) → cv_R n' b2 b5 t (fun k => cv_mg s (M o k) (M a k) (M b k)) → post (dm', nI n', nI t, br, nI (cv_cnt (fun k => cv_ck (M o k) (M a k) (M b k)) 64), b1, b2, b3, b4, b5, a6, a7, a8, a9, a10, a11, a12, b13)) : wpX_join post (dm, nI n, nI t, br, cl, a1, a2, a3, a4, a5, a6, a7, a8, a9, a10, a11, a12, a13) (nI o) (nI a) (nI b) s := by
  unfold wpX_join
  refine pk_loop (σ := Int32 × Nat × (Nat → Int32) × (Nat → Int32) × (Nat → Int32) × (Nat → Int32) × (Nat → Int32) × (Nat → Int32))
    (fun fu i u => wX_join_8 post (nI o) (nI a) (nI b) s fu (nI i) u.1 (nI u.2.1) (nI t) br (nI (cv_cnt (fun k => cv_ck (M o k) (M a k) (M b k)) (8 * i))) u.2.2.1 u.2.2.2.1 u.2.2.2.2.1 u.2.2.2.2.2.1 u.2.2.2.2.2.2.1 a6 a7 a8 a9 a10 a11 a12 u.2.2.2.2.2.2.2)
    (fun i u => n ≤ u.2.1 ∧ u.2.1 ≤ n + i ∧ cv_K u.2.1 u.2.2.1 u.2.2.2.1 u.2.2.2.2.1 u.2.2.2.2.2.1 ∧ cv_ext n a2 u.2.2.2.1 ∧ (∀ m, m < 8 * t → u.2.2.2.2.2.2.1 m = a5 m) ∧ ∀ c, c < i → cv_eq u.2.1 u.2.2.2.1 (u.2.2.2.2.2.2.1 (8 * t + c)) (fun j => cv_mg s (M o (8 * c + j)) (M a (8 * c + j)) (M b (8 * c + j))))
    8 0 (dm, n, a1, a2, a3, a4, a5, a13) (by omega) ⟨Nat.le_refl n, Nat.le_refl n, hK, fun _ _ _ _ => rfl, fun _ _ => rfl, fun c hc => absurd hc (by omega)⟩ ?_ ?_
  · intro fu u ⟨h1, h2, h3, h4, h5, h6⟩
    exact pk_le 8 8 (fun _ => H _ _ _ _ _ _ _ _ h1 h2 h3 h4 h5 h6) (fun z => absurd z (by omega))
  · intro fu i ⟨dm', n', b1, b2, b3, b4, b5, b13⟩ hi ⟨h1, h2, h3, h4, h5, h6⟩ hw
    dsimp only at h1 h2 h3 h4 h5 h6
    have N : ∀ (dm2 : Int32) (n2 : Nat) (c1 c2 c3 c4 c13 : Nat → Int32) (x : Int32), n' ≤ n2 → n2 ≤ n' + 1 → cv_K n2 c1 c2 c3 c4 → cv_ext n' b2 c2 → cv_eq n2 c2 x (fun j => cv_mg s (M o (8 * i + j)) (M a (8 * i + j)) (M b (8 * i + j))) → wX_join_103 post (wX_join_8 post (nI o) (nI a) (nI b) s fu) (nI o) (nI a) (nI b) s (nI i) x dm2 (nI n2) (nI t) br (nI (cv_cnt (fun k => cv_ck (M o k) (M a k) (M b k)) (8 * (i + 1)))) c1 c2 c3 c4 b5 a6 a7 a8 a9 a10 a11 a12 c13 := by
      intro dm2 n2 c1 c2 c3 c4 c13 x g1 g2 g3 g4 g5
      unfold wX_join_103
      refine And.intro (pk_in (8 * t + i) 160 (by omega) (cv_ix t i)) ?_
      rw [cv_ixc (by omega)]
      refine nm_e (nm_r (nI_1 i) (hw (dm2, n2, c1, c2, c3, c4, upd b5 (8 * t + i) x, c13) ⟨by dsimp only; omega, by dsimp only; omega, g3, cv_ext_trans h4 g4 h1, fun m hm => ?_, fun c hc => ?_⟩))
      · dsimp only
        rw [pk_un (by omega)]
        exact h5 m hm
      · dsimp only
        by_cases e : c = i
        · subst e
          rw [pk_us]
          exact g5
        · rw [pk_un (by omega)]
          exact cv_eq_mono (h6 c (by omega)) g1 g4
    obtain ⟨qo, hqo, eo, vo⟩ := cv_eq_mono (hR o ho i hi) h1 h4
    obtain ⟨qa, hqa, ea, va⟩ := cv_eq_mono (hR a ha i hi) h1 h4
    obtain ⟨qb, hqb, eb, vb⟩ := cv_eq_mono (hR b hb i hi) h1 h4
    have e8 : cv_cnt (fun k => cv_ck (M o k) (M a k) (M b k)) (8 * (i + 1)) = cv_cnt (fun k => cv_ck (M o k) (M a k) (M b k)) (8 * i) + cv_cnt (fun j => cv_ck (M o (8 * i + j)) (M a (8 * i + j)) (M b (8 * i + j))) 8 := by
      rw [show 8 * (i + 1) = 8 * i + 8 by omega, cv_cnt_add]
    refine pk_le 8 i (fun z => absurd z (by omega)) (fun _ => And.intro (pk_in (8 * o + i) 160 (by omega) (cv_ix o i)) ?_)
    rw [pk_cl (8 * o + i) (cv_ix o i), pk_cl (8 * a + i) (cv_ix a i), pk_cl (8 * b + i) (cv_ix b i)]
    dsimp only
    rw [h5 (8 * o + i) (by omega), h5 (8 * a + i) (by omega), h5 (8 * b + i) (by omega), eo, ea, eb]
    refine nm_e (And.intro (pk_in (8 * a + i) 160 (by omega) (cv_ix a i)) (nm_e (And.intro (pk_in (8 * b + i) 160 (by omega) (cv_ix b i)) (nm_e ?_))))
    have Z : (∀ j, j < 8 → cv_ck (M o (8 * i + j)) (M a (8 * i + j)) (M b (8 * i + j)) = false) → ∀ x, cv_eq n' b2 x (fun j => cv_mg s (M o (8 * i + j)) (M a (8 * i + j)) (M b (8 * i + j))) → wX_join_103 post (wX_join_8 post (nI o) (nI a) (nI b) s fu) (nI o) (nI a) (nI b) s (nI i) x dm' (nI n') (nI t) br (nI (cv_cnt (fun k => cv_ck (M o k) (M a k) (M b k)) (8 * i))) b1 b2 b3 b4 b5 a6 a7 a8 a9 a10 a11 a12 b13 := by
      intro hz x hx
      have t1 := N dm' n' b1 b2 b3 b4 b13 x (by omega) (by omega) h3 (fun _ _ _ _ => rfl) hx
      rw [e8, cv_cnt_0 hz, Nat.add_zero] at t1
      exact t1
    refine pk_eq qa qo (fun e => ?_) (fun _ => pk_eq qb qo (fun e => ?_) (fun _ => pk_eq qb qa (fun e => ?_) (fun _ => ?_)))
    · subst e
      have f : ∀ j, j < 8 → M a (8 * i + j) = M o (8 * i + j) := fun j hj => (va j hj).symm.trans (vo j hj)
      refine Z (fun j hj => ?_) _ ⟨qb, hqb, rfl, fun j hj => ?_⟩
      · rw [f j hj]
        unfold cv_ck
        simp
      · rw [vb j hj]
        dsimp only
        rw [f j hj]
        unfold cv_mg
        by_cases w : M o (8 * i + j) = M b (8 * i + j)
        · simp [w]
        · by_cases w2 : M b (8 * i + j) = M o (8 * i + j)
          · exact absurd w2.symm w
          · simp [w, w2]
    · subst e
      have f : ∀ j, j < 8 → M b (8 * i + j) = M o (8 * i + j) := fun j hj => (vb j hj).symm.trans (vo j hj)
      refine Z (fun j hj => ?_) _ ⟨qa, hqa, rfl, fun j hj => ?_⟩
      · rw [f j hj]
        unfold cv_ck
        simp
      · rw [va j hj]
        dsimp only
        rw [f j hj]
        unfold cv_mg
        by_cases w : M a (8 * i + j) = M o (8 * i + j)
        · simp [w]
        · simp [w]
    · subst e
      have f : ∀ j, j < 8 → M b (8 * i + j) = M a (8 * i + j) := fun j hj => (vb j hj).symm.trans (va j hj)
      refine Z (fun j hj => ?_) _ ⟨qb, hqa, rfl, fun j hj => ?_⟩
      · rw [f j hj]
        unfold cv_ck
        simp
      · rw [va j hj]
        dsimp only
        rw [f j hj]
        unfold cv_mg
        simp
    · refine cv_joinC (by omega) h3 hqo hqa hqb (fun dm2 n2 c1 c2 c3 c4 c13 x g1 g2 g3 g4 g5 => ?_)
      have t1 := N dm2 n2 c1 c2 c3 c4 c13 x g1 g2 g3 g4 (cv_eq_congr g5 (fun j hj => by rw [vo j hj, va j hj, vb j hj]))
      have t2 : cv_cnt (fun j => cv_ck (b2 (8 * qo + j)) (b2 (8 * qa + j)) (b2 (8 * qb + j))) 8 = cv_cnt (fun j => cv_ck (M o (8 * i + j)) (M a (8 * i + j)) (M b (8 * i + j))) 8 := cv_cnt_congr (fun j hj => by rw [vo j hj, va j hj, vb j hj])
      rw [t2, ← e8]
      exact t1
theorem cv_m129 {post : Int32 → St2 → Prop} {n t b0 p q o s : Nat} {M : Nat → Nat → Int32} (hn : n + 8 ≤ 168) (ht : t < 20) (hb0 : b0 < 4) (hp : p < t) (hq : q < t) (ho : o < t) (hI : cv_I n t M a1 a2 a3 a4 a5 a10 a11 a12)
    (H4 : ∀ (dm' : Int32) (n' : Nat) (b1 b2 b3 b4 b5 b10 b11 b12 b13 : Nat → Int32), n' ≤ n + 8 → cv_I n' (t + 1) (cv_up M t (fun k => cv_mg (nI s) (M o k) (M p k) (M q k))) b1 b2 b3 b4 b5 b10 b11 b12 → cv_cl b5 b12 t → (∀ k, k < 64 → b11 k = cv_mg (nI s) (M o k) (M p k) (M q k)) → post (nI (cv_cnt (fun k => cv_ck (M o k) (M p k) (M q k)) 64)) (dm', nI n', nI (t + 1), nI b0, nI (cv_cnt (fun k => cv_ck (M o k) (M p k) (M q k)) 64), b1, b2, b3, b4, b5, upd a6 t (nI p), upd a7 t (nI q), upd (upd a8 t (a8 p ||| ((1 : Int32) <<< (nI t &&& 31)))) t ((a8 p ||| ((1 : Int32) <<< (nI t &&& 31))) ||| a8 q), upd a9 b0 (nI t), b10, b11, b12, b13)) :
    wX_merge_129 post (nI s) (nI p) (nI q) (nI o) dm (nI n) (nI t) (nI b0) cl a1 a2 a3 a4 a5 a6 a7 a8 a9 a10 a11 a12 a13 := by
  unfold wX_merge_129
  refine cv_join hn ht hI.1 hI.2.1 ho hp hq (fun dm' n' b1 b2 b3 b4 b5 b13 h1 h2 h3 h4 h5 h6 => ?_)
  refine cv_enter2 ht hb0 (by omega) hq ?_
  have hI2 : cv_I n' (t + 1) (cv_up M t (fun k => cv_mg (nI s) (M o k) (M p k) (M q k))) b1 b2 b3 b4 b5 a10 a11 a12 := by
    refine ⟨h3, fun i hi => ?_, cv_W_mono hI.2.2 h1 h4⟩
    by_cases e : i = t
    · subst e
      rw [cv_up_s]
      exact h6
    · rw [cv_up_n _ _ e]
      intro c hc
      rw [h5 _ (by omega)]
      exact cv_eq_mono (hI.2.1 i (by omega) c hc) h1 h4
  dsimp only
  rw [nI_pred]
  refine cv_checkout (by omega) (by omega) (by omega) hI2 (fun r b10 b11 b12 g1 g2 g3 => ?_)
  rw [cv_up_s] at g3
  exact H4 dm' n' b1 b2 b3 b4 b5 b10 b11 b12 b13 h2 g1 g2 g3
theorem cv_merge {post : Int32 → St2 → Prop} {n t b b0 p q o s : Nat} {M : Nat → Nat → Int32} {X : Int32} (hn : n + 8 ≤ 168) (ht : t < 20) (hb : b < 4) (hb0 : b0 < 4) (hs : s < 3) (h0 : a9 b0 = nI p) (h1 : a9 b = nI q) (hp : p < t) (hq : q < t) (hc : cv_cl a5 a12 p) (hX : a8 p &&& a8 q = X) (ho1 : o ≤ p) (ho2 : o ≤ q) (hbt : cb_bt X o = true) (hz : ∀ k, k < 20 → o < k → k ≤ p → k ≤ q → cb_bt X k = false) (hI : cv_I n t M a1 a2 a3 a4 a5 a10 a11 a12)
    (H1 : o = q → post 1000 (dm, nI n, nI t, nI b0, cl, a1, a2, a3, a4, a5, a6, a7, a8, a9, a10, a11, a12, a13))
    (H2 : o ≠ q → o = p → ∀ b10 b11 b12 : Nat → Int32, cv_I n t M a1 a2 a3 a4 a5 b10 b11 b12 → cv_cl a5 b12 q → post 2000 (dm, nI n, nI t, nI b0, cl, a1, a2, a3, a4, a5, a6, a7, a8, upd a9 b0 (nI q), b10, b11, b12, a13))
    (H3 : o ≠ q → o ≠ p → s = 2 → 0 < cv_cnt (fun k => cv_ck (M o k) (M p k) (M q k)) 64 → post (-5) (dm, nI n, nI t, nI b0, cl, a1, a2, a3, a4, a5, a6, a7, a8, a9, a10, a11, a12, a13))
    (H4 : o ≠ q → o ≠ p → (s = 2 → cv_cnt (fun k => cv_ck (M o k) (M p k) (M q k)) 64 = 0) → ∀ (dm' : Int32) (n' : Nat) (b1 b2 b3 b4 b5 b10 b11 b12 b13 : Nat → Int32), n' ≤ n + 8 → cv_I n' (t + 1) (cv_up M t (fun k => cv_mg (nI s) (M o k) (M p k) (M q k))) b1 b2 b3 b4 b5 b10 b11 b12 → cv_cl b5 b12 t → (∀ k, k < 64 → b11 k = cv_mg (nI s) (M o k) (M p k) (M q k)) → post (nI (cv_cnt (fun k => cv_ck (M o k) (M p k) (M q k)) 64)) (dm', nI n', nI (t + 1), nI b0, nI (cv_cnt (fun k => cv_ck (M o k) (M p k) (M q k)) 64), b1, b2, b3, b4, b5, upd a6 t (nI p), upd a7 t (nI q), upd (upd a8 t (a8 p ||| ((1 : Int32) <<< (nI t &&& 31)))) t ((a8 p ||| ((1 : Int32) <<< (nI t &&& 31))) ||| a8 q), upd a9 b0 (nI t), b10, b11, b12, b13)) :
    wpX_merge post (dm, nI n, nI t, nI b0, cl, a1, a2, a3, a4, a5, a6, a7, a8, a9, a10, a11, a12, a13) (nI b) (nI s) := by
  have hcnt := cv_cnt_le (fun k => cv_ck (M o k) (M p k) (M q k)) 64
  unfold wpX_merge
  refine cv_isBranch hb (br_f (by decide) (pk_lt s 0 (fun z => absurd z (by omega)) (fun _ => pk_le s 2 (fun _ => ?_) (fun z => absurd z (by omega)))))
  refine cv_isClean hb0 (by omega) h0 hc (br_f (by decide) (And.intro (pk_in b0 4 hb0) ?_))
  rw [nI_clamp (show b0 < 2 ^ 31 by omega), nI_clamp (show b < 2 ^ 31 by omega), h0, h1]
  refine nm_e (And.intro (pk_in b 4 hb) (nm_e (cv_baseOf (by omega) (by omega) hX ho1 ho2 hbt hz ?_)))
  refine pk_eq o q H1 (fun n1 => pk_eq o p (fun e => And.intro (pk_in b0 4 hb0) (nm_e ?_)) (fun n2 => pk_eq t 20 (fun z => absurd z (by omega)) (fun _ => pk_eq s 2 (fun es => ?_) (fun es => ?_))))
  · exact cv_checkout (by omega) (by omega) hq hI (fun r b10 b11 b12 g1 g2 _ => H2 n1 e b10 b11 b12 g1 g2)
  · refine cv_countC (by omega) (by omega) hI.1 hI.2.1 (by omega) hp hq (pk_le _ 0 (fun z => ?_) (fun z => H3 n1 n2 es z))
    exact cv_m129 hn ht hb0 hp hq (by omega) hI (H4 n1 n2 (fun _ => by omega))
  · exact cv_m129 hn ht hb0 hp hq (by omega) hI (H4 n1 n2 (fun z => absurd z es))
end
end
section
/-- f is the map that load makes of a code -/
def cv_L (d : Nat) (code : Int32) (f : Nat → Int32) : Prop := (∀ i, i < 8 → f (7 * i + d) = cv_part code i) ∧ ∀ m, m < 64 → (∀ i, i < 8 → m ≠ 7 * i + d) → f m = 0
theorem cv_part4 (code : Int32) (i : Nat) : ∃ j, j < 4 ∧ cv_part code i = nI j := pk_andE _ 2 (by decide)
theorem cv_mg4 (s : Int32) (c6 c7 c8 : Int32) (i : Nat) : ∃ j, j < 4 ∧ cv_mg s (cv_part c6 i) (cv_part c7 i) (cv_part c8 i) = nI j := by
  rw [cv_mg_ft]
  split
  · exact cv_part4 c8 i
  · exact cv_part4 c7 i
section
variable {dm st ct br cl : Int32} {a1 a2 a3 a4 a5 a6 a7 a8 a9 a10 a11 a12 a13 : Nat → Int32}
variable {post : Int32 → St0 → Prop} {mc ms kc ks : Nat} {x6 x7 x8 : Int32} {n d s : Nat} {M : Nat → Nat → Int32}
theorem cv_l346 {x12 : Int32} (hd : d < 8) (hW : cv_W n a2 a10 a11 a12)
    (h0 : x12 = 0 → ∀ i, i < 8 → a11 (7 * i + d) = cv_mg (nI s) (cv_part x6 i) (cv_part x7 i) (cv_part x8 i))
    (h1 : ¬ x12 = 0 → ∀ i, i < 8 → a11 (7 * i + d) = cv_part x7 i)
    (He : ∀ fu, wL_lawOf_346 post mc ms (nI d) x6 x7 x8 (nI s) x12 kc ks dm st ct br cl a1 a2 a3 a4 a5 a6 a7 a8 a9 a10 a11 a12 a13 (fu + 1) (nI 8)) :
    ∃ fu, wL_lawOf_346 post mc ms (nI d) x6 x7 x8 (nI s) x12 kc ks dm st ct br cl a1 a2 a3 a4 a5 a6 a7 a8 a9 a10 a11 a12 a13 fu 0 := by
  refine pk_loop (σ := Unit) (fun fu i _ => wL_lawOf_346 post mc ms (nI d) x6 x7 x8 (nI s) x12 kc ks dm st ct br cl a1 a2 a3 a4 a5 a6 a7 a8 a9 a10 a11 a12 a13 fu (nI i)) (fun _ _ => True) 8 0 () (by omega) trivial (fun fu _ _ => He fu) ?_
  intro fu i _ hi _ hw
  have h4 : ∃ j, j < 4 ∧ a11 (7 * i + d) = nI j := by
    by_cases z : x12 = 0
    · rw [h0 z i hi]
      exact cv_mg4 _ _ _ _ _
    · rw [h1 z i hi]
      exact cv_part4 _ _
  have G : ∀ v, a11 (7 * i + d) = v → wL_lawOf_435 post mc ms (wL_lawOf_346 post mc ms (nI d) x6 x7 x8 (nI s) x12 kc ks dm st ct br cl a1 a2 a3 a4 a5 a6 a7 a8 a9 a10 a11 a12 a13 fu) (nI d) x6 x7 x8 (nI s) x12 (nI i) v kc ks dm st ct br cl a1 a2 a3 a4 a5 a6 a7 a8 a9 a10 a11 a12 a13 := by
    intro v hv
    unfold wL_lawOf_435
    refine cv_key (cv_value (by omega) (br_t hv (cv_has (by omega) hW ?_)))
    obtain ⟨j, hj, ej⟩ := h4
    rw [ej] at hv
    rw [ej]
    refine pk_le j 0 (fun z => ?_) (fun z => ?_) hv.symm
    · rw [if_pos (show nI j = 0 by rw [show j = 0 by omega]; rfl)]
      exact br_t rfl (nm_r (nI_1 i) (hw () trivial))
    · rw [if_neg (nI_ne0 z (by omega))]
      exact br_t rfl (nm_r (nI_1 i) (hw () trivial))
  have F : ∀ z0, (x12 = 0 → a11 (7 * i + d) = z0) → wL_lawOf_424 post mc ms (wL_lawOf_346 post mc ms (nI d) x6 x7 x8 (nI s) x12 kc ks dm st ct br cl a1 a2 a3 a4 a5 a6 a7 a8 a9 a10 a11 a12 a13 fu) (nI d) x6 x7 x8 (nI s) x12 (nI i) (cv_part x7 i) z0 kc ks dm st ct br cl a1 a2 a3 a4 a5 a6 a7 a8 a9 a10 a11 a12 a13 := by
    intro z0 hz
    unfold wL_lawOf_424
    exact br_c (fun z => G _ (hz z)) (fun z => G _ (h1 z i hi))
  refine pk_le 8 i (fun z => absurd z (by omega)) (fun _ => cv_partw (cv_partw (cv_partw ?_)))
  refine br_c (fun e1 => F _ (fun z => ?_)) (fun e1 => br_c (fun e2 => F _ (fun z => ?_)) (fun e2 => br_c (fun e3 => F _ (fun z => ?_)) (fun e3 => br_c (fun e4 => F _ (fun z => ?_)) (fun e4 => F _ (fun z => ?_)))))
  · rw [h0 z i hi]
    unfold cv_mg
    rw [if_pos e1]
  · rw [h0 z i hi]
    unfold cv_mg
    rw [if_neg e1, if_pos e2]
  · rw [h0 z i hi]
    unfold cv_mg
    rw [if_neg e1, if_neg e2, if_pos e3]
  · rw [h0 z i hi]
    unfold cv_mg
    rw [if_neg e1, if_neg e2, if_neg e3, if_pos e4]
  · rw [h0 z i hi]
    unfold cv_mg
    rw [if_neg e1, if_neg e2, if_neg e3, if_neg e4]
/-- behind the last loop, the merge made -/
theorem cv_tailA (HP : post 1 ()) (hn : n + 8 ≤ 168) (hs : s < 3) (hI : cv_I n 5 M a1 a2 a3 a4 a5 a10 a11 a12) (hc : cv_cl a5 a12 4) (h6 : a6 4 = nI 2) (h7 : a7 4 = nI 3) (h84 : a8 4 = 31) (h83 : a8 3 = 11) (h90 : a9 0 = nI 4) (h92 : a9 2 = nI 3) (fu : Nat) :
    wL_lawOf_346 post mc ms (nI d) x6 x7 x8 (nI s) 0 kc ks dm (nI n) (nI 5) (nI 0) cl a1 a2 a3 a4 a5 a6 a7 a8 a9 a10 a11 a12 a13 (fu + 1) (nI 8) := by
  have hX : a8 4 &&& a8 3 = 11 := by rw [h84, h83]; decide
  have hX' : a8 3 &&& a8 4 = 11 := by rw [h84, h83]; decide
  have hb : ∀ k, k < 20 → 3 < k → k ≤ 4 → k ≤ 3 → cb_bt 11 k = false := fun k _ _ _ _ => by omega
  have hb' : ∀ k, k < 20 → 3 < k → k ≤ 3 → k ≤ 4 → cb_bt 11 k = false := fun k _ _ _ _ => by omega
  refine pk_le 8 8 (fun _ => br_t rfl ?_) (fun z => absurd z (by omega))
  refine cv_parent (t := 5) (i := 4) (p := 2) (by omega) (by omega) (by omega) (fun _ => h6) (fun z => absurd rfl z) (br_t rfl ?_)
  refine cv_parent (t := 5) (i := 4) (p := 3) (by omega) (by omega) (by omega) (fun z => absurd z (by decide)) (fun _ => h7) (br_t rfl ?_)
  refine cv_ancestors (t := 5) (i := 4) (by omega) (by omega) h84 (br_t (by decide) ?_)
  refine cv_base (t := 5) (p := 4) (q := 3) (o := 3) (by omega) (by omega) (by omega) hX (by omega) (by omega) (by decide) hb (br_t rfl ?_)
  refine cv_merge (t := 5) (b := 2) (b0 := 0) (p := 4) (q := 3) (o := 3) hn (by omega) (by omega) (by omega) hs h90 h92 (by omega) (by omega) hc hX (by omega) (by omega) (by decide) hb hI (fun _ => br_t rfl ?_) (fun z => absurd rfl z) (fun z => absurd rfl z) (fun z => absurd rfl z)
  refine cv_change (t := 5) (b := 2) (b0 := 0) (h := 4) (p := 3) (by omega) (by omega) (by omega) (by omega) h90 (by omega) hc h92 (by omega) hI (fun b10 b11 b12 g1 g2 g3 => br_t rfl ?_)
  refine cv_merge (t := 5) (b := 0) (b0 := 2) (p := 3) (q := 4) (o := 3) (s := 2) hn (by omega) (by omega) (by omega) (by omega) h92 h90 (by omega) (by omega) g2 hX' (by omega) (by omega) (by decide) hb' g1 (fun z => absurd z (by omega)) (fun _ _ c10 c11 c12 k1 k2 => br_t rfl ?_) (fun _ z => absurd rfl z) (fun _ z => absurd rfl z)
  exact cv_head (b := 2) (by omega) (br_t pk_us HP)
/-- behind the last loop, the merge refused -/
theorem cv_tailB (HP : post 1 ()) (hc : cv_cl a5 a12 2) (h90 : a9 0 = nI 2) (fu : Nat) :
    wL_lawOf_346 post mc ms (nI d) x6 x7 x8 (nI s) 1 kc ks dm st ct (nI 0) cl a1 a2 a3 a4 a5 a6 a7 a8 a9 a10 a11 a12 a13 (fu + 1) (nI 8) :=
  pk_le 8 8 (fun _ => br_f (by decide) (cv_clean (b := 0) (h := 2) (by omega) (by omega) h90 hc (br_t rfl HP))) (fun z => absurd z (by omega))
end
end
section
theorem cv_b3 : ∀ k, k < 20 → 1 < k → k ≤ 2 → k ≤ 3 → cb_bt 3 k = false := by
  intro k _ h1 h2 _
  have e : k = 2 := by omega
  subst e
  decide
theorem cv_ckey {d : Nat} {x6 x7 x8 : Int32} {f g h : Nat → Int32} (hd : d < 8) (L1 : cv_L d x6 f) (L2 : cv_L d x7 g) (L3 : cv_L d x8 h) : cv_cnt (fun k => cv_ck (f k) (g k) (h k)) 64 = cv_cnt (fun i => cv_ck (cv_part x6 i) (cv_part x7 i) (cv_part x8 i)) 8 := by
  rw [cv_cnt_key hd (fun k hk hn => by rw [L1.2 k hk hn, L2.2 k hk hn, L3.2 k hk hn]; rfl)]
  exact cv_cnt_congr (fun i hi => by rw [L1.1 i hi, L2.1 i hi, L3.1 i hi])
theorem cv_dkey {d : Nat} {x7 x8 : Int32} {g h : Nat → Int32} (hd : d < 8) (L2 : cv_L d x7 g) (L3 : cv_L d x8 h) : cv_cnt (fun k => decide (¬ g k = h k)) 64 = cv_cnt (fun i => decide (¬ cv_part x7 i = cv_part x8 i)) 8 := by
  rw [cv_cnt_key hd (fun k hk hn => by rw [L2.2 k hk hn, L3.2 k hk hn]; rfl)]
  exact cv_cnt_congr (fun i hi => by rw [L2.1 i hi, L3.1 i hi])
section
variable {dm st ct br cl : Int32} {a1 a2 a3 a4 a5 a6 a7 a8 a9 a10 a11 a12 a13 : Nat → Int32}
variable {post : Int32 → St0 → Prop} {mc ms kc ks : Nat} {x6 x7 x8 : Int32} {n d s : Nat} {M : Nat → Nat → Int32}
theorem cv_l277a (HP : post 1 ()) (hd : d < 8) (hs : s < 3) (hn : n + 16 ≤ 168) (hI : cv_I n 4 M a1 a2 a3 a4 a5 a10 a11 a12) (hc : cv_cl a5 a12 2) (h82 : a8 2 = 7) (h83 : a8 3 = 11) (h90 : a9 0 = nI 2) (h92 : a9 2 = nI 3) (L1 : cv_L d x6 (M 1)) (L2 : cv_L d x7 (M 2)) (L3 : cv_L d x8 (M 3)) (hC : s = 2 → cv_cnt (fun i => cv_ck (cv_part x6 i) (cv_part x7 i) (cv_part x8 i)) 8 = 0) :
    wL_lawOf_277 post mc ms (nI d) x6 x7 x8 (nI s) (nI (cv_cnt (fun i => cv_ck (cv_part x6 i) (cv_part x7 i) (cv_part x8 i)) 8)) 0 kc ks dm (nI n) (nI 4) (nI 0) cl a1 a2 a3 a4 a5 a6 a7 a8 a9 a10 a11 a12 a13 := by
  have hX : a8 2 &&& a8 3 = 3 := by rw [h82, h83]; decide
  have ek := cv_ckey hd L1 L2 L3
  unfold wL_lawOf_277
  refine cv_merge (t := 4) (b := 2) (b0 := 0) (p := 2) (q := 3) (o := 1) (by omega) (by omega) (by omega) (by omega) hs h90 h92 (by omega) (by omega) hc hX (by omega) (by omega) (by decide) cv_b3 hI (fun z => absurd z (by omega)) (fun _ z => absurd z (by omega)) (fun _ _ e z => absurd z (by rw [ek, hC e]; omega)) (fun _ _ _ dm' n' b1 b2 b3 b4 b5 b10 b11 b12 b13 g0 g1 g2 g3 => ?_)
  refine br_t rfl (br_t (by rw [ek]) (cv_head (b := 0) (by omega) (br_t rfl (br_t pk_us (br_t rfl (br_t rfl ?_))))))
  refine cv_l346 hd g1.2.2 (fun _ i hi => ?_) (fun z => absurd rfl z) (cv_tailA HP (by omega) hs g1 g2 pk_us pk_us ?_ ?_ pk_us ?_)
  · rw [g3 _ (by omega), L1.1 i hi, L2.1 i hi, L3.1 i hi]
  · rw [pk_us, h82, h83]
    decide
  · rw [pk_un (by omega), pk_un (by omega)]
    exact h83
  · rw [pk_un (by omega)]
    exact h92
theorem cv_l277b (HP : post 1 ()) (hd : d < 8) (hs : s = 2) (hn : n + 16 ≤ 168) (hI : cv_I n 4 M a1 a2 a3 a4 a5 a10 a11 a12) (hc : cv_cl a5 a12 2) (h82 : a8 2 = 7) (h83 : a8 3 = 11) (h90 : a9 0 = nI 2) (h92 : a9 2 = nI 3) (L1 : cv_L d x6 (M 1)) (L2 : cv_L d x7 (M 2)) (L3 : cv_L d x8 (M 3)) (hm : ∀ k, k < 64 → a11 k = M 2 k) (hC : 0 < cv_cnt (fun i => cv_ck (cv_part x6 i) (cv_part x7 i) (cv_part x8 i)) 8) :
    wL_lawOf_277 post mc ms (nI d) x6 x7 x8 (nI s) (nI (cv_cnt (fun i => cv_ck (cv_part x6 i) (cv_part x7 i) (cv_part x8 i)) 8)) 1 kc ks dm (nI n) (nI 4) (nI 0) cl a1 a2 a3 a4 a5 a6 a7 a8 a9 a10 a11 a12 a13 := by
  have hX : a8 2 &&& a8 3 = 3 := by rw [h82, h83]; decide
  have ek := cv_ckey hd L1 L2 L3
  unfold wL_lawOf_277
  refine cv_merge (t := 4) (b := 2) (b0 := 0) (p := 2) (q := 3) (o := 1) (by omega) (by omega) (by omega) (by omega) (by omega) h90 h92 (by omega) (by omega) hc hX (by omega) (by omega) (by decide) cv_b3 hI (fun z => absurd z (by omega)) (fun _ z => absurd z (by omega)) (fun _ _ _ _ => ?_) (fun _ _ z => absurd (z hs) (by rw [ek]; omega))
  refine br_f (by decide) (br_t rfl (cv_head (b := 0) (by omega) (br_f (by decide) (br_t h90 (br_f (by decide) (br_t rfl ?_))))))
  exact cv_l346 hd hI.2.2 (fun z => absurd z (by decide)) (fun _ i hi => by rw [hm _ (by omega), L2.1 i hi]) (cv_tailB HP hc h90)
theorem cv_l150 (HP : post 1 ()) (hd : d < 8) (hs : s < 3) (hn : n + 16 ≤ 168) (hI : cv_I n 4 M a1 a2 a3 a4 a5 a10 a11 a12) (hc : cv_cl a5 a12 2) (h82 : a8 2 = 7) (h83 : a8 3 = 11) (h90 : a9 0 = nI 2) (h92 : a9 2 = nI 3) (L1 : cv_L d x6 (M 1)) (L2 : cv_L d x7 (M 2)) (L3 : cv_L d x8 (M 3)) (hm : ∀ k, k < 64 → a11 k = M 2 k) :
    ∃ fu, wL_lawOf_150 post mc ms (nI d) x6 x7 x8 (nI s) kc ks dm (nI n) (nI 4) (nI 0) cl a1 a2 a3 a4 a5 a6 a7 a8 a9 a10 a11 a12 a13 fu 0 0 0 := by
  have hX : a8 2 &&& a8 3 = 3 := by rw [h82, h83]; decide
  have hle := cv_cnt_le (fun i => cv_ck (cv_part x6 i) (cv_part x7 i) (cv_part x8 i)) 8
  refine pk_loop (σ := Int32 × Int32) (fun fu i u => wL_lawOf_150 post mc ms (nI d) x6 x7 x8 (nI s) kc ks dm (nI n) (nI 4) (nI 0) cl a1 a2 a3 a4 a5 a6 a7 a8 a9 a10 a11 a12 a13 fu u.1 u.2 (nI i)) (fun i u => u.1 = nI (cv_cnt (fun i => cv_ck (cv_part x6 i) (cv_part x7 i) (cv_part x8 i)) i) ∧ u.2 = nI (cv_cnt (fun i => decide (¬ cv_part x7 i = cv_part x8 i)) i)) 8 0 (0, 0) (by omega) ⟨rfl, rfl⟩ ?_ ?_
  · intro fu ⟨u1, u2⟩ ⟨e1, e2⟩
    dsimp only at e1 e2
    subst e1 e2
    have GA := fun hC => cv_l277a (mc := mc) (ms := ms) (kc := kc) (ks := ks) (post := post) (dm := dm) (cl := cl) (a6 := a6) (a7 := a7) (a13 := a13) HP hd hs hn hI hc h82 h83 h90 h92 L1 L2 L3 hC
    refine pk_le 8 8 (fun _ => ?_) (fun z => absurd z (by omega))
    refine cv_conflicts (t := 4) (a := 2) (b := 3) (o := 1) (by omega) (by omega) hI.1 hI.2.1 (by omega) (by omega) hX (by omega) (by omega) (by decide) cv_b3 (br_t (by rw [cv_ckey hd L1 L2 L3]) ?_)
    refine cv_differing (t := 4) (a := 2) (b := 3) (by omega) (by omega) hI.1 hI.2.1 (by omega) (by omega) (br_t (by rw [cv_dkey hd L2 L3]) ?_)
    refine cv_base (t := 4) (p := 2) (q := 3) (o := 1) (by omega) (by omega) (by omega) hX (by omega) (by omega) (by decide) cv_b3 (br_t rfl ?_)
    exact pk_eq s 2 (fun e => pk_le (cv_cnt (fun i => cv_ck (cv_part x6 i) (cv_part x7 i) (cv_part x8 i)) 8) 0 (fun z => GA (fun _ => by omega)) (fun z => cv_l277b HP hd e hn hI hc h82 h83 h90 h92 L1 L2 L3 hm z)) (fun e => GA (fun z => absurd z e))
  · intro fu i ⟨u1, u2⟩ hi ⟨e1, e2⟩ hw
    dsimp only at e1 e2
    subst e1 e2
    have F : ∀ v, v = nI (cv_cnt (fun i => decide (¬ cv_part x7 i = cv_part x8 i)) (i + 1)) → wL_lawOf_194 post mc ms (wL_lawOf_150 post mc ms (nI d) x6 x7 x8 (nI s) kc ks dm (nI n) (nI 4) (nI 0) cl a1 a2 a3 a4 a5 a6 a7 a8 a9 a10 a11 a12 a13 fu) (nI d) x6 x7 x8 (nI s) (nI (cv_cnt (fun i => cv_ck (cv_part x6 i) (cv_part x7 i) (cv_part x8 i)) i)) v (nI i) (cv_part x6 i) (cv_part x7 i) (cv_part x8 i) kc ks dm (nI n) (nI 4) (nI 0) cl a1 a2 a3 a4 a5 a6 a7 a8 a9 a10 a11 a12 a13 := by
      intro v hv
      have Z : cv_ck (cv_part x6 i) (cv_part x7 i) (cv_part x8 i) = false → nI (cv_cnt (fun i => cv_ck (cv_part x6 i) (cv_part x7 i) (cv_part x8 i)) i) = nI (cv_cnt (fun i => cv_ck (cv_part x6 i) (cv_part x7 i) (cv_part x8 i)) (i + 1)) := by
        intro h
        show _ = nI (cv_cnt _ i + (if cv_ck (cv_part x6 i) (cv_part x7 i) (cv_part x8 i) = true then 1 else 0))
        rw [h]
        rfl
      have Y : cv_ck (cv_part x6 i) (cv_part x7 i) (cv_part x8 i) = true → nI (cv_cnt (fun i => cv_ck (cv_part x6 i) (cv_part x7 i) (cv_part x8 i)) i) + 1 = nI (cv_cnt (fun i => cv_ck (cv_part x6 i) (cv_part x7 i) (cv_part x8 i)) (i + 1)) := by
        intro h
        show _ = nI (cv_cnt _ i + (if cv_ck (cv_part x6 i) (cv_part x7 i) (cv_part x8 i) = true then 1 else 0))
        rw [h, nI_1]
        rfl
      unfold wL_lawOf_194
      refine br_c (fun g1 => nm_r (nI_1 i) (hw (_, _) ⟨Z ?_, hv⟩)) (fun g1 => br_c (fun g2 => nm_r (nI_1 i) (hw (_, _) ⟨Z ?_, hv⟩)) (fun g2 => br_c (fun g3 => nm_r (nI_1 i) (hw (_, _) ⟨Z ?_, hv⟩)) (fun g3 => nm_e (nm_r (nI_1 i) (hw (_, _) ⟨Y ?_, hv⟩)))))
      · unfold cv_ck
        simp [g1]
      · unfold cv_ck
        simp [g2]
      · unfold cv_ck
        simp [g3]
      · unfold cv_ck
        simp [g1, g2, g3]
    refine pk_le 8 i (fun z => absurd z (by omega)) (fun _ => cv_partw (cv_partw (cv_partw ?_)))
    refine br_c (fun g => F _ ?_) (fun g => nm_e (F _ ?_))
    · show _ = nI (cv_cnt _ i + (if decide (¬ cv_part x7 i = cv_part x8 i) = true then 1 else 0))
      rw [if_neg (by simp [g])]
      rfl
    · show _ = nI (cv_cnt _ i + (if decide (¬ cv_part x7 i = cv_part x8 i) = true then 1 else 0))
      rw [if_pos (by simp [g]), nI_1]
end
end
section
theorem cv_cell {post : Int32 → Prop} {L k : Nat} {xs : Nat → Int32} (hL : L ≤ 4) (hk : k < 4) (H : ∀ r, post r) : wpL_cellAt post L xs () (nI k) := by
  unfold wpL_cellAt
  exact pk_le L k (fun _ => H _) (fun z => And.intro (pk_in k L z) (H _))
theorem cv_lawOf {post : Int32 → St0 → Prop} (HP : post 1 ()) (p0 p1 p2 p3 : Int32) : wpL_lawOf post 14 2042 () p0 p1 p2 p3 := by
  obtain ⟨d, hd, ed⟩ := pk_andE p2 (m := 7) 3 (by decide)
  obtain ⟨s4, hs4, es⟩ := pk_andE p3 (m := 3) 2 (by decide)
  have hd : d < 8 := hd
  have hs4 : s4 < 4 := hs4
  have e9 : (p3 &&& 3) - (p3 &&& 3) / 3 * 3 = nI (s4 % 3) := by
    rw [es]
    exact pk_rem (d := 3) (by omega) (by omega) (by omega)
  have hs : s4 % 3 < 3 := by omega
  generalize s4 % 3 = s at e9 hs
  unfold wpL_lawOf
  refine ⟨by omega, by omega, 13, 2024, by omega, by omega, cv_init (fun n b1 b2 b3 b4 b5 b12 hn hK hW hR => ?_)⟩
  refine nm_r ed (nm_e (nm_e (nm_e (And.intro (by decide) (nm_r e9 ?_)))))
  refine cv_load hd hW (fun c10 c11 c12 w1 w2 w3 => ?_)
  have L1 : cv_L d (p0 &&& 65535) c11 := ⟨w2, fun m _ hk => w3 m hk⟩
  have I1 : cv_I n 1 (fun _ _ => 0) b1 b2 b3 b4 b5 c10 c11 c12 := ⟨hK, fun i hi => by rw [show i = 0 by omega]; exact hR, w1⟩
  refine cv_commit (t := 1) (b := 0) (f := 0) (by omega) (by omega) (by omega) (by omega) rfl I1 (fun dm1 n1 d1 d2 d3 d4 d5 d12 d13 hn1 J1 C1 => br_t rfl ?_)
  refine cv_branch (b := 2) (b0 := 0) (by omega) (by omega) (by omega) (br_t rfl ?_)
  refine cv_load hd J1.2.2 (fun e10 e11 e12 v1 v2 v3 => ?_)
  have L2 : cv_L d ((p0 >>> ((16 : Int32) &&& 31)) &&& 65535) e11 := ⟨v2, fun m hm hk => (v3 m hk).trans (L1.2 m hm hk)⟩
  refine cv_commit (t := 2) (b := 0) (f := 1) (by omega) (by omega) (by omega) (by omega) rfl ⟨J1.1, J1.2.1, v1⟩ (fun dm2 n2 f1 f2 f3 f4 f5 f12 f13 hn2 J2 C2 => br_t rfl ?_)
  refine cv_change (t := 3) (b := 2) (b0 := 0) (h := 2) (p := 1) (by omega) (by omega) (by omega) (by omega) rfl (by omega) C2 rfl (by omega) J2 (fun g10 g11 g12 K2 D2 m2 => br_t rfl ?_)
  refine cv_clean (b := 2) (h := 1) (by omega) (by omega) rfl D2 (br_t rfl ?_)
  refine cv_load hd K2.2.2 (fun h10 h11 h12 u1 u2 u3 => ?_)
  have L3 : cv_L d (p1 &&& 65535) h11 := ⟨u2, fun m hm hk => (u3 m hk).trans ((m2 m hm).trans (L1.2 m hm hk))⟩
  refine cv_commit (t := 3) (b := 2) (f := 1) (by omega) (by omega) (by omega) (by omega) rfl ⟨K2.1, K2.2.1, u1⟩ (fun dm3 n3 i1 i2 i3 i4 i5 i12 i13 hn3 J3 C3 => br_t rfl ?_)
  refine cv_change (t := 4) (b := 0) (b0 := 2) (h := 3) (p := 2) (by omega) (by omega) (by omega) (by omega) rfl (by omega) C3 rfl (by omega) J3 (fun k10 k11 k12 K3 D3 m3 => br_t rfl ?_)
  exact cv_l150 HP hd hs (by omega) K3 D3 (by decide) (by decide) rfl rfl L1 L2 L3 m3
theorem i_vc (xs : Nat → Int32) (L : Nat) (hL : L ≤ 4) : wpL_law (fun r => r = 1) L xs := by
  unfold wpL_law
  refine cv_cell (k := 0) hL (by omega) (fun r1 => cv_cell (k := 1) hL (by omega) (fun r2 => cv_cell (k := 2) hL (by omega) (fun r3 => cv_cell (k := 3) hL (by omega) (fun r4 => ?_))))
  exact ⟨14, 2042, by omega, by omega, cv_lawOf rfl r1 r2 r3 r4⟩
end
