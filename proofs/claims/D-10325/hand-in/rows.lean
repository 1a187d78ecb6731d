section
/-! ===== bits of an Int32 (after kit/laws/BITS.to-paste) ===== -/
def cv_bt (x : Int32) (i : Nat) : Bool := x.toBitVec.getLsbD i
theorem cv_or (x y : Int32) (i : Nat) : cv_bt (x ||| y) i = (cv_bt x i || cv_bt y i) := by unfold cv_bt; rw [Int32.toBitVec_or, BitVec.getLsbD_or]
theorem cv_and (x y : Int32) (i : Nat) : cv_bt (x &&& y) i = (cv_bt x i && cv_bt y i) := by unfold cv_bt; rw [Int32.toBitVec_and, BitVec.getLsbD_and]
theorem cv_sl : ∀ n, n < 32 → ((nI n &&& 31).toBitVec.smod 32).toNat = n := by decide +kernel
theorem cv_sshr0 (n : Nat) (hn : n < 32) (x : Int32) : cv_bt (x >>> (nI n &&& 31)) 0 = cv_bt x n := by
  unfold cv_bt
  rw [Int32.toBitVec_shiftRight]
  show (x.toBitVec.sshiftRight ((nI n &&& 31).toBitVec.smod 32).toNat).getLsbD 0 = _
  rw [cv_sl n hn, BitVec.getLsbD_sshiftRight]
  simp [hn]
theorem cv_one : ∀ n, n < 32 → cv_bt ((1 : Int32) <<< (nI n &&& 31)) n = true := by decide +kernel
/-- bit n set: the program's test sees it -/
theorem cv_test {x : Int32} {n : Nat} (hn : n < 32) (h : cv_bt x n = true) : ¬ ((x >>> (nI n &&& 31)) &&& 1) = 0 := by
  intro e
  have e2 : cv_bt ((x >>> (nI n &&& 31)) &&& 1) 0 = true := by
    rw [cv_and, cv_sshr0 n hn, h]
    rfl
  rw [e] at e2
  exact absurd e2 (by decide)
theorem cv_andc (x y : Int32) : x &&& y = y &&& x := Int32.and_comm x y
theorem cv_xorc (x y : Int32) : x ^^^ y = y ^^^ x := Int32.xor_comm x y
theorem cv_ands (x : Int32) : x &&& x = x := Int32.and_self
/-! ===== places ===== -/
theorem cv_8 (q i : Nat) : 8 * nI q + nI i = nI (8 * q + i) := by
  rw [show (8 : Int32) = nI 8 from rfl, pk_mul, nI_add]
theorem cv_in {q i N : Nat} (h : 8 * q + i < N) (hN : N < 2 ^ 31 := by omega) : vp_in (8 * nI q + nI i) N := by
  rw [cv_8]
  exact vp_in_nI h hN
theorem cv_cl {q i : Nat} (h : 8 * q + i < 2 ^ 31) : (8 * nI q + nI i).toNatClampNeg = 8 * q + i := by
  rw [cv_8]
  exact nI_clamp h
/-- a place below t; a place below t or none -/
def cv_at (t : Nat) (x : Int32) : Prop := ∃ k : Nat, k < t ∧ x = nI k
def cv_opt (t : Nat) (x : Int32) : Prop := x = -1 ∨ cv_at t x
theorem cv_at_le {t t' : Nat} {x : Int32} (h : t ≤ t') (k : cv_at t x) : cv_at t' x := by
  obtain ⟨j, hj, e⟩ := k
  exact ⟨j, by omega, e⟩
theorem cv_opt_le {t t' : Nat} {x : Int32} (h : t ≤ t') (k : cv_opt t x) : cv_opt t' x := k.elim Or.inl (fun z => Or.inr (cv_at_le h z))
theorem cv_at_o {t : Nat} {x : Int32} (k : cv_at t x) : cv_opt t x := Or.inr k
theorem cv_nI {t k : Nat} (h : k < t) : cv_at t (nI k) := ⟨k, h, rfl⟩
theorem cv_m1 {k : Nat} (h : k < 2 ^ 31) : ¬ nI k = -1 := by
  intro e
  have e2 : (nI k).toInt = -1 := by rw [e]; rfl
  rw [nI_toInt h] at e2
  omega
/-! ===== the invariant, the frame ===== -/
def cv_store (t : Nat) (a3 a4 : Nat → Int32) : Prop := (∀ j, j < 32 → cv_opt t (a4 j)) ∧ (∀ j, j < t → cv_opt t (a3 j))
def cv_inv (n t b : Nat) (a3 a4 a5 a6 a8 a9 a12 : Nat → Int32) : Prop :=
  1 ≤ n ∧ n ≤ 20 ∧ t + 7 ≤ 8 * n ∧ b < 4 ∧ cv_store t a3 a4 ∧ (∀ j, j < 8 * n → cv_at t (a5 j)) ∧ (∀ j, j < n → cv_opt n (a6 j)) ∧ (∀ j, j < 4 → cv_at n (a9 j)) ∧ (∀ j, j < 8 → cv_opt t (a12 j)) ∧ (∀ j, j < n → cv_bt (a8 j) j = true)
def cv_fr (n t : Nat) (a1 a2 a5 b1 b2 b5 : Nat → Int32) : Prop := (∀ j, j < t → b1 j = a1 j) ∧ (∀ j, j < 8 * t → b2 j = a2 j) ∧ (∀ j, j < 8 * n → b5 j = a5 j)
theorem cv_fr_0 {n t : Nat} {a1 a2 a5 : Nat → Int32} : cv_fr n t a1 a2 a5 a1 a2 a5 := ⟨fun _ _ => rfl, fun _ _ => rfl, fun _ _ => rfl⟩
theorem cv_fr_t {n t n' t' : Nat} {a1 a2 a5 b1 b2 b5 c1 c2 c5 : Nat → Int32} (hn : n ≤ n') (ht : t ≤ t') (h : cv_fr n t a1 a2 a5 b1 b2 b5) (k : cv_fr n' t' b1 b2 b5 c1 c2 c5) : cv_fr n t a1 a2 a5 c1 c2 c5 :=
  ⟨fun j hj => by rw [k.1 j (by omega), h.1 j hj], fun j hj => by rw [k.2.1 j (by omega), h.2.1 j hj], fun j hj => by rw [k.2.2 j (by omega), h.2.2 j hj]⟩
/-- writing one place of a row whose places all have P -/
theorem cv_upd {P : Int32 → Prop} {a : Nat → Int32} {m k : Nat} {x : Int32} (h : ∀ j, j < m → j ≠ k → P (a j)) (hx : P x) : ∀ j, j < m → P (upd a k x j) := by
  intro j hj
  by_cases e : j = k
  · rw [e, pk_us]
    exact hx
  · rw [pk_un e]
    exact h j hj e
theorem cv_un {a : Nat → Int32} {m k : Nat} {x : Int32} (h : m ≤ k) : ∀ j, j < m → upd a k x j = a j := fun j hj => pk_un (by omega)
end
section
/-! ===== small tests ===== -/
theorem cv_isKey {post : Int32 → Prop} {p0 : Int32} (h0 : post 0) (h1 : ∀ j, j < 64 → p0 = nI j → post 1) : wpX_isKey post () p0 := by
  rcases pk_ix p0 (n := 64) (by omega) with h | h | ⟨j, hj, e⟩
  · exact br_t h h0
  · exact br_c (fun _ => h0) (fun _ => br_t h h0)
  · rw [e]
    exact pk_lt j 0 (fun z => absurd z (by omega)) (fun _ => pk_le 64 j (fun z => absurd z (by omega)) (fun _ => h1 j hj e))
theorem cv_isKeyN {post : Int32 → Prop} {j : Nat} (hj : j < 64) (h1 : post 1) : wpX_isKey post () (nI j) :=
  pk_lt j 0 (fun z => absurd z (by omega)) (fun _ => pk_le 64 j (fun z => absurd z (by omega)) (fun _ => h1))
theorem cv_isBranch {post : Int32 → Prop} {p0 : Int32} (h0 : post 0) (h1 : ∀ j, j < 4 → p0 = nI j → post 1) : wpX_isBranch post () p0 := by
  rcases pk_ix p0 (n := 4) (by omega) with h | h | ⟨j, hj, e⟩
  · exact br_t h h0
  · exact br_c (fun _ => h0) (fun _ => br_t h h0)
  · rw [e]
    exact pk_lt j 0 (fun z => absurd z (by omega)) (fun _ => pk_le 4 j (fun z => absurd z (by omega)) (fun _ => h1 j hj e))
theorem cv_isCommit {post : Int32 → Prop} {p0 : Int32} {n : Nat} {dm st br cl : Int32} {a1 a2 a3 a4 a5 a6 a7 a8 a9 a10 a11 a12 a13 : Nat → Int32} (hn : n ≤ 20) (h0 : post 0) (h1 : ∀ j, j < n → p0 = nI j → post 1) : wpX_isCommit post (dm, st, nI n, br, cl, a1, a2, a3, a4, a5, a6, a7, a8, a9, a10, a11, a12, a13) p0 := by
  rcases pk_ix p0 (n := n) (by omega) with h | h | ⟨j, hj, e⟩
  · exact br_t h h0
  · exact br_c (fun _ => h0) (fun _ => br_t h h0)
  · rw [e]
    exact pk_lt j 0 (fun z => absurd z (by omega)) (fun _ => pk_le n j (fun z => absurd z (by omega)) (fun _ => h1 j hj e))
theorem cv_isCommitN {post : Int32 → Prop} {n j : Nat} {dm st br cl : Int32} {a1 a2 a3 a4 a5 a6 a7 a8 a9 a10 a11 a12 a13 : Nat → Int32} (hn : n ≤ 20) (hj : j < n) (h1 : post 1) : wpX_isCommit post (dm, st, nI n, br, cl, a1, a2, a3, a4, a5, a6, a7, a8, a9, a10, a11, a12, a13) (nI j) :=
  pk_lt j 0 (fun z => absurd z (by omega)) (fun _ => pk_le n j (fun z => absurd z (by omega)) (fun _ => h1))
theorem cv_10 : ¬ (1 : Int32) = 0 := by decide
/-! ===== hasIn, valueIn, mark ===== -/
theorem cv_kc {k : Nat} (hk : k < 64) : nI k >>> ((3 : Int32) &&& 31) = nI (k / 8) := pk_shrN (by omega) _ 3 (by decide)
theorem cv_k7 {k : Nat} (hk : k < 64) : nI k &&& 7 = nI (k % 8) := pk_andN (by omega) 3 (by decide)
theorem cv_hasIn {post : Int32 → Prop} {n w k q : Nat} {dm st br cl : Int32} {a1 a2 a3 a4 a5 a6 a7 a8 a9 a10 a11 a12 a13 : Nat → Int32} (hn : n ≤ 20) (hw : w < n) (hk : k < 64) (hq : q < 168) (hr : a5 (8 * w + k / 8) = nI q)
    (hp : post ((a1 q >>> (nI (k % 8) &&& 31)) &&& 1)) : wpX_hasIn post (dm, st, nI n, br, cl, a1, a2, a3, a4, a5, a6, a7, a8, a9, a10, a11, a12, a13) (nI w) (nI k) := by
  unfold wpX_hasIn
  dsimp only
  refine cv_isCommitN hn hw (br_f cv_10 (cv_isKeyN hk (br_f cv_10 ?_)))
  rw [cv_kc hk, cv_k7 hk]
  refine ⟨cv_in (by omega), nm_r (by rw [cv_cl (by omega)]; exact hr) ⟨vp_in_nI hq (by omega), ?_⟩⟩
  rw [nI_clamp (by omega)]
  exact hp
theorem cv_valueIn {post : Int32 → Prop} {n w k q : Nat} {dm st br cl : Int32} {a1 a2 a3 a4 a5 a6 a7 a8 a9 a10 a11 a12 a13 : Nat → Int32} (hn : n ≤ 20) (hw : w < n) (hk : k < 64) (hq : q < 168) (hr : a5 (8 * w + k / 8) = nI q)
    (hp : post (a2 (8 * q + k % 8))) : wpX_valueIn post (dm, st, nI n, br, cl, a1, a2, a3, a4, a5, a6, a7, a8, a9, a10, a11, a12, a13) (nI w) (nI k) := by
  unfold wpX_valueIn
  dsimp only
  refine cv_isCommitN hn hw (br_f cv_10 (cv_isKeyN hk (br_f cv_10 ?_)))
  rw [cv_kc hk, cv_k7 hk]
  refine ⟨cv_in (by omega), nm_r (by rw [cv_cl (by omega)]; exact hr) ⟨cv_in (by omega), ?_⟩⟩
  rw [cv_cl (by omega)]
  exact hp
/-- r is what mark answers for commit w, in every state that keeps what the frame keeps -/
def cv_mk (n t w : Nat) (r : Int32) (a1 a2 a5 : Nat → Int32) : Prop :=
  ∀ (post : Int32 → Prop) (n' : Nat) (dm st br cl : Int32) (b1 b2 b3 b4 b5 b6 b7 b8 b9 b10 b11 b12 b13 : Nat → Int32), n ≤ n' → n' ≤ 20 → cv_fr n t a1 a2 a5 b1 b2 b5 → post r →
    wpL_mark post (dm, st, nI n', br, cl, b1, b2, b3, b4, b5, b6, b7, b8, b9, b10, b11, b12, b13) (nI w)
theorem cv_mark_l {n t w : Nat} {a1 a2 a5 : Nat → Int32} (hn : n ≤ 20) (hw : w < n) (ht : t ≤ 168) (h5 : ∀ j, j < 8 * n → cv_at t (a5 j)) : ∀ (k i : Nat) (s : Int32), i + k = 64 → ∃ r : Int32,
    ∀ (post : Int32 → Prop) (n' : Nat) (dm st br cl : Int32) (b1 b2 b3 b4 b5 b6 b7 b8 b9 b10 b11 b12 b13 : Nat → Int32), n ≤ n' → n' ≤ 20 → cv_fr n t a1 a2 a5 b1 b2 b5 → post r →
    wL_mark_4 post (nI w) dm st (nI n') br cl b1 b2 b3 b4 b5 b6 b7 b8 b9 b10 b11 b12 b13 (k + 1) s (nI i) := by
  intro k
  induction k with
  | zero =>
    intro i s hi
    exact ⟨s, fun post n' dm st br cl b1 b2 b3 b4 b5 b6 b7 b8 b9 b10 b11 b12 b13 _ _ _ hp => pk_le 64 i (fun _ => hp) (fun z => absurd z (by omega))⟩
  | succ k ih =>
    intro i s hi
    obtain ⟨q, hq, eq⟩ := h5 (8 * w + i / 8) (by omega)
    have key : ∀ (r : Int32), (∀ (post : Int32 → Prop) (n' : Nat) (dm st br cl : Int32) (b1 b2 b3 b4 b5 b6 b7 b8 b9 b10 b11 b12 b13 : Nat → Int32), n ≤ n' → n' ≤ 20 → cv_fr n t a1 a2 a5 b1 b2 b5 → post r →
        ((((a1 q >>> (nI (i % 8) &&& 31)) &&& 1) = 0 → (((a2 (8 * q + i % 8) = 0 → (wL_mark_38 post (wL_mark_4 post (nI w) dm st (nI n') br cl b1 b2 b3 b4 b5 b6 b7 b8 b9 b10 b11 b12 b13 (k + 1)) (nI w) s (nI i) ((a1 q >>> (nI (i % 8) &&& 31)) &&& 1) (a2 (8 * q + i % 8)) dm st (nI n') br cl b1 b2 b3 b4 b5 b6 b7 b8 b9 b10 b11 b12 b13)) ∧ (¬ a2 (8 * q + i % 8) = 0 → (post 1))))) ∧ (¬ ((a1 q >>> (nI (i % 8) &&& 31)) &&& 1) = 0 → (wL_mark_38 post (wL_mark_4 post (nI w) dm st (nI n') br cl b1 b2 b3 b4 b5 b6 b7 b8 b9 b10 b11 b12 b13 (k + 1)) (nI w) s (nI i) ((a1 q >>> (nI (i % 8) &&& 31)) &&& 1) (a2 (8 * q + i % 8)) dm st (nI n') br cl b1 b2 b3 b4 b5 b6 b7 b8 b9 b10 b11 b12 b13)))) →
        ∃ r : Int32, ∀ (post : Int32 → Prop) (n' : Nat) (dm st br cl : Int32) (b1 b2 b3 b4 b5 b6 b7 b8 b9 b10 b11 b12 b13 : Nat → Int32), n ≤ n' → n' ≤ 20 → cv_fr n t a1 a2 a5 b1 b2 b5 → post r →
        wL_mark_4 post (nI w) dm st (nI n') br cl b1 b2 b3 b4 b5 b6 b7 b8 b9 b10 b11 b12 b13 (k + 1 + 1) s (nI i) := by
      intro r hr
      refine ⟨r, fun post n' dm st br cl b1 b2 b3 b4 b5 b6 b7 b8 b9 b10 b11 b12 b13 h1 h2 hf hp => pk_le 64 i (fun z => absurd z (by omega)) (fun _ => ?_)⟩
      have e5 : b5 (8 * w + i / 8) = nI q := by rw [hf.2.2 _ (by omega), eq]
      refine cv_hasIn h2 (by omega) (by omega) (by omega) e5 (cv_valueIn h2 (by omega) (by omega) (by omega) e5 ?_)
      rw [hf.1 q hq, hf.2.1 (8 * q + i % 8) (by omega)]
      exact hr post n' dm st br cl b1 b2 b3 b4 b5 b6 b7 b8 b9 b10 b11 b12 b13 h1 h2 hf hp
    obtain ⟨r, hr⟩ := ih (i + 1) (((31 * s) + (7 * ((a1 q >>> (nI (i % 8) &&& 31)) &&& 1))) + (13 * (a2 (8 * q + i % 8)))) (by omega)
    by_cases c1 : ((a1 q >>> (nI (i % 8) &&& 31)) &&& 1) = 0
    · by_cases c2 : a2 (8 * q + i % 8) = 0
      · exact key r (fun post n' dm st br cl b1 b2 b3 b4 b5 b6 b7 b8 b9 b10 b11 b12 b13 h1 h2 hf hp => br_t c1 (br_t c2 (nm_e (nm_r (nI_1 i) (hr post n' dm st br cl b1 b2 b3 b4 b5 b6 b7 b8 b9 b10 b11 b12 b13 h1 h2 hf hp)))))
      · exact key 1 (fun post n' dm st br cl b1 b2 b3 b4 b5 b6 b7 b8 b9 b10 b11 b12 b13 h1 h2 hf hp => br_t c1 (br_f c2 hp))
    · exact key r (fun post n' dm st br cl b1 b2 b3 b4 b5 b6 b7 b8 b9 b10 b11 b12 b13 h1 h2 hf hp => br_f c1 (nm_e (nm_r (nI_1 i) (hr post n' dm st br cl b1 b2 b3 b4 b5 b6 b7 b8 b9 b10 b11 b12 b13 h1 h2 hf hp))))
theorem cv_mark {n t w : Nat} {a1 a2 a5 : Nat → Int32} (hn : n ≤ 20) (hw : w < n) (ht : t ≤ 168) (h5 : ∀ j, j < 8 * n → cv_at t (a5 j)) : ∃ r, cv_mk n t w r a1 a2 a5 := by
  obtain ⟨r, hr⟩ := cv_mark_l (a1 := a1) (a2 := a2) hn hw ht h5 64 0 0 (by omega)
  exact ⟨r, fun post n' dm st br cl b1 b2 b3 b4 b5 b6 b7 b8 b9 b10 b11 b12 b13 h1 h2 hf hp => ⟨65, hr post n' dm st br cl b1 b2 b3 b4 b5 b6 b7 b8 b9 b10 b11 b12 b13 h1 h2 hf hp⟩⟩
theorem cv_mk_t {n t n' t' w : Nat} {r : Int32} {a1 a2 a5 b1 b2 b5 : Nat → Int32} (hn : n ≤ n') (ht : t ≤ t') (h : cv_mk n t w r a1 a2 a5) (hf : cv_fr n t a1 a2 a5 b1 b2 b5) : cv_mk n' t' w r b1 b2 b5 :=
  fun post n2 dm st br cl c1 c2 c3 c4 c5 c6 c7 c8 c9 c10 c11 c12 c13 h1 h2 hg hp => h post n2 dm st br cl c1 c2 c3 c4 c5 c6 c7 c8 c9 c10 c11 c12 c13 (by omega) h2 (cv_fr_t hn ht hf hg) hp
/-! ===== differsFromWork, isClean: functions of the state ===== -/
theorem cv_dw_l {c q : Nat} {dm st ct br cl : Int32} {a1 a2 a3 a4 a5 a6 a7 a8 a9 a10 a11 a12 a13 : Nat → Int32} (hc : c < 8) (hq : q < 168) : ∀ (k i : Nat) (s : Int32), i + k = 8 → ∃ r : Int32, ∀ post : Int32 → Prop, post r → wX_differsFromWork_5 post (nI c) (nI q) dm st ct br cl a1 a2 a3 a4 a5 a6 a7 a8 a9 a10 a11 a12 a13 (k + 1) s (nI i) := by
  intro k
  induction k with
  | zero =>
    intro i s hi
    exact ⟨s, fun post hp => pk_le 8 i (fun _ => hp) (fun z => absurd z (by omega))⟩
  | succ k ih =>
    intro i s hi
    obtain ⟨r1, h1⟩ := ih (i + 1) (s + 1) (by omega)
    obtain ⟨r0, h0⟩ := ih (i + 1) (s + 0) (by omega)
    by_cases b : ((((a10 (nI c).toNatClampNeg) ^^^ (a1 (nI q).toNatClampNeg)) >>> (nI i &&& 31)) &&& 1) = 1
    · exact ⟨r1, fun post hp => pk_le 8 i (fun z => absurd z (by omega)) (fun _ => ⟨vp_in_nI hc (by omega), vp_in_nI hq (by omega), br_t b (br_f cv_10 (nm_e (nm_r (nI_1 i) (h1 post hp))))⟩)⟩
    · by_cases e : a11 (8 * nI c + nI i).toNatClampNeg = a2 (8 * nI q + nI i).toNatClampNeg
      · exact ⟨r0, fun post hp => pk_le 8 i (fun z => absurd z (by omega)) (fun _ => ⟨vp_in_nI hc (by omega), vp_in_nI hq (by omega), br_f b (br_t rfl ⟨cv_in (by omega), cv_in (by omega), br_t e (nm_e (nm_r (nI_1 i) (h0 post hp)))⟩)⟩)⟩
      · exact ⟨r1, fun post hp => pk_le 8 i (fun z => absurd z (by omega)) (fun _ => ⟨vp_in_nI hc (by omega), vp_in_nI hq (by omega), br_f b (br_t rfl ⟨cv_in (by omega), cv_in (by omega), br_f e (nm_e (nm_r (nI_1 i) (h1 post hp)))⟩)⟩)⟩
theorem cv_dw {c q : Nat} {dm st ct br cl : Int32} {a1 a2 a3 a4 a5 a6 a7 a8 a9 a10 a11 a12 a13 : Nat → Int32} (hc : c < 8) (hq : q < 168) : ∃ r : Int32, ∀ post : Int32 → Prop, post r → wpX_differsFromWork post (dm, st, ct, br, cl, a1, a2, a3, a4, a5, a6, a7, a8, a9, a10, a11, a12, a13) (nI c) (nI q) := by
  obtain ⟨r, h⟩ := cv_dw_l (dm := dm) (st := st) (ct := ct) (br := br) (cl := cl) (a1 := a1) (a2 := a2) (a3 := a3) (a4 := a4) (a5 := a5) (a6 := a6) (a7 := a7) (a8 := a8) (a9 := a9) (a10 := a10) (a11 := a11) (a12 := a12) (a13 := a13) hc hq 8 0 0 (by omega)
  exact ⟨r, fun post hp => ⟨9, h post hp⟩⟩
theorem cv_ic_l {h t : Nat} {dm st ct br cl : Int32} {a1 a2 a3 a4 a5 a6 a7 a8 a9 a10 a11 a12 a13 : Nat → Int32} (hh : h < 20) (ht : t ≤ 168) (h5 : ∀ c, c < 8 → cv_at t (a5 (8 * h + c))) : ∀ (k i : Nat), i + k = 8 → ∃ r : Int32, ∀ post : Int32 → Prop, post r → wX_isClean_12 post (nI h) dm st ct br cl a1 a2 a3 a4 a5 a6 a7 a8 a9 a10 a11 a12 a13 (k + 1) (nI i) := by
  intro k
  induction k with
  | zero =>
    intro i hi
    exact ⟨1, fun post hp => pk_le 8 i (fun _ => hp) (fun z => absurd z (by omega))⟩
  | succ k ih =>
    intro i hi
    obtain ⟨r, hr⟩ := ih (i + 1) (by omega)
    obtain ⟨q, hq, e⟩ := h5 i (by omega)
    obtain ⟨d, hd⟩ := cv_dw (c := i) (q := q) (dm := dm) (st := st) (ct := ct) (br := br) (cl := cl) (a1 := a1) (a2 := a2) (a3 := a3) (a4 := a4) (a5 := a5) (a6 := a6) (a7 := a7) (a8 := a8) (a9 := a9) (a10 := a10) (a11 := a11) (a12 := a12) (a13 := a13) (by omega) (by omega)
    have ee : a5 (8 * nI h + nI i).toNatClampNeg = nI q := by rw [cv_cl (by omega), e]
    by_cases g : a12 (nI i).toNatClampNeg = nI q
    · exact ⟨r, fun post hp => pk_le 8 i (fun z => absurd z (by omega)) (fun _ => ⟨cv_in (by omega), nm_r ee ⟨vp_in_nI (by omega) (by omega), br_t g (nm_r (nI_1 i) (hr post hp))⟩⟩)⟩
    · by_cases f : d ≤ 0
      · exact ⟨r, fun post hp => pk_le 8 i (fun z => absurd z (by omega)) (fun _ => ⟨cv_in (by omega), nm_r ee ⟨vp_in_nI (by omega) (by omega), br_f g (hd _ (br_t f (nm_r (nI_1 i) (hr post hp))))⟩⟩)⟩
      · exact ⟨0, fun post hp => pk_le 8 i (fun z => absurd z (by omega)) (fun _ => ⟨cv_in (by omega), nm_r ee ⟨vp_in_nI (by omega) (by omega), br_f g (hd _ (br_f f hp))⟩⟩)⟩
/-- the state's answer to isClean is not 0 -/
def cv_clean (u : St1) : Prop := ∃ r : Int32, ¬ r = 0 ∧ ∀ post : Int32 → Prop, post r → wpX_isClean post u
theorem cv_ic {n t b : Nat} {dm st ct cl : Int32} {a1 a2 a3 a4 a5 a6 a7 a8 a9 a10 a11 a12 a13 : Nat → Int32} (hn : n ≤ 20) (ht : t ≤ 168) (hb : b < 4) (h9 : ∀ j, j < 4 → cv_at n (a9 j)) (h5 : ∀ j, j < 8 * n → cv_at t (a5 j)) : ∃ r : Int32, ∀ post : Int32 → Prop, post r → wpX_isClean post (dm, st, ct, nI b, cl, a1, a2, a3, a4, a5, a6, a7, a8, a9, a10, a11, a12, a13) := by
  obtain ⟨h, hh, e⟩ := h9 b hb
  obtain ⟨r, hr⟩ := cv_ic_l (h := h) (dm := dm) (st := st) (ct := ct) (br := nI b) (cl := cl) (a1 := a1) (a2 := a2) (a3 := a3) (a4 := a4) (a5 := a5) (a6 := a6) (a7 := a7) (a8 := a8) (a9 := a9) (a10 := a10) (a11 := a11) (a12 := a12) (a13 := a13) (by omega) ht (fun c hc => h5 _ (by omega)) 8 0 (by omega)
  refine ⟨r, fun post hp => ⟨vp_in_nI hb (by omega), nm_r (by rw [nI_clamp (by omega)]; exact e) ⟨9, hr post hp⟩⟩⟩
theorem cv_clean_l {post : Int32 → Prop} {h : Nat} {dm st ct br cl : Int32} {a1 a2 a3 a4 a5 a6 a7 a8 a9 a10 a11 a12 a13 : Nat → Int32} (hh : h < 20) (h12 : ∀ c, c < 8 → a12 c = a5 (8 * h + c)) (hp : post 1) : ∀ (k i : Nat), i + k = 8 → wX_isClean_12 post (nI h) dm st ct br cl a1 a2 a3 a4 a5 a6 a7 a8 a9 a10 a11 a12 a13 (k + 1) (nI i) := by
  intro k
  induction k with
  | zero =>
    intro i hi
    exact pk_le 8 i (fun _ => hp) (fun z => absurd z (by omega))
  | succ k ih =>
    intro i hi
    exact pk_le 8 i (fun z => absurd z (by omega)) (fun _ => ⟨cv_in (by omega), nm_r (e' := a12 i) (by rw [cv_cl (by omega)]; exact (h12 i (by omega)).symm) ⟨vp_in_nI (by omega) (by omega), br_t (by rw [nI_clamp (by omega)]) (nm_r (nI_1 i) (ih (i + 1) (by omega)))⟩⟩)
theorem cv_cleanI {b h : Nat} {dm st ct cl : Int32} {a1 a2 a3 a4 a5 a6 a7 a8 a9 a10 a11 a12 a13 : Nat → Int32} (hb : b < 4) (hh : h < 20) (h9 : a9 b = nI h) (h12 : ∀ c, c < 8 → a12 c = a5 (8 * h + c)) : cv_clean (dm, st, ct, nI b, cl, a1, a2, a3, a4, a5, a6, a7, a8, a9, a10, a11, a12, a13) :=
  ⟨1, cv_10, fun post hp => ⟨vp_in_nI hb (by omega), nm_r (by rw [nI_clamp (by omega)]; exact h9) ⟨9, cv_clean_l hh h12 hp 8 0 (by omega)⟩⟩⟩
theorem cv_cleanE {post : Int32 → Prop} {u : St1} (h : cv_clean u) (hp : post 1) : wpX_clean post u := by
  obtain ⟨r, hr, hw⟩ := h
  obtain ⟨dm, st, ct, br, cl, a1, a2, a3, a4, a5, a6, a7, a8, a9, a10, a11, a12, a13⟩ := u
  exact hw _ (br_f hr hp)
end
section
/-! ===== difference: a function of the state, the same both ways ===== -/
theorem cv_df_l {p q : Nat} {dm st ct br cl : Int32} {a1 a2 a3 a4 a5 a6 a7 a8 a9 a10 a11 a12 a13 : Nat → Int32} (hp : p < 168) (hq : q < 168) : ∀ (k i : Nat) (s : Int32), i + k = 8 → ∃ r : Int32,
    (∀ post : Int32 → Prop, post r → wX_difference_24 post (nI p) (nI q) dm st ct br cl a1 a2 a3 a4 a5 a6 a7 a8 a9 a10 a11 a12 a13 (k + 1) s (nI i)) ∧ (∀ post : Int32 → Prop, post r → wX_difference_24 post (nI q) (nI p) dm st ct br cl a1 a2 a3 a4 a5 a6 a7 a8 a9 a10 a11 a12 a13 (k + 1) s (nI i)) := by
  intro k
  induction k with
  | zero =>
    intro i s hi
    exact ⟨s, fun post h => pk_le 8 i (fun _ => h) (fun z => absurd z (by omega)), fun post h => pk_le 8 i (fun _ => h) (fun z => absurd z (by omega))⟩
  | succ k ih =>
    intro i s hi
    by_cases e : a2 (8 * nI p + nI i).toNatClampNeg = a2 (8 * nI q + nI i).toNatClampNeg
    · obtain ⟨r, h1, h2⟩ := ih (i + 1) s (by omega)
      exact ⟨r, fun post h => pk_le 8 i (fun z => absurd z (by omega)) (fun _ => ⟨cv_in (by omega), cv_in (by omega), br_t e (nm_r (nI_1 i) (h1 post h))⟩), fun post h => pk_le 8 i (fun z => absurd z (by omega)) (fun _ => ⟨cv_in (by omega), cv_in (by omega), br_t e.symm (nm_r (nI_1 i) (h2 post h))⟩)⟩
    · obtain ⟨r, h1, h2⟩ := ih (i + 1) (s ||| ((1 : Int32) <<< (nI i &&& 31))) (by omega)
      exact ⟨r, fun post h => pk_le 8 i (fun z => absurd z (by omega)) (fun _ => ⟨cv_in (by omega), cv_in (by omega), br_f e (nm_e (nm_r (nI_1 i) (h1 post h)))⟩), fun post h => pk_le 8 i (fun z => absurd z (by omega)) (fun _ => ⟨cv_in (by omega), cv_in (by omega), br_f (fun z => e z.symm) (nm_e (nm_r (nI_1 i) (h2 post h)))⟩)⟩
theorem cv_df {p q : Nat} {dm st ct br cl : Int32} {a1 a2 a3 a4 a5 a6 a7 a8 a9 a10 a11 a12 a13 : Nat → Int32} (hp : p < 168) (hq : q < 168) : ∃ r : Int32,
    (∀ post : Int32 → Prop, post r → wpX_difference post (dm, st, ct, br, cl, a1, a2, a3, a4, a5, a6, a7, a8, a9, a10, a11, a12, a13) (nI p) (nI q)) ∧ (∀ post : Int32 → Prop, post r → wpX_difference post (dm, st, ct, br, cl, a1, a2, a3, a4, a5, a6, a7, a8, a9, a10, a11, a12, a13) (nI q) (nI p)) := by
  by_cases e : p = q
  · rw [e]
    exact ⟨0, fun post h => br_t rfl h, fun post h => br_t rfl h⟩
  · have e1 : ¬ nI p = nI q := fun z => e ((nI_eq (by omega) (by omega)).mp z)
    obtain ⟨r, h1, h2⟩ := cv_df_l (dm := dm) (st := st) (ct := ct) (br := br) (cl := cl) (a1 := a1) (a2 := a2) (a3 := a3) (a4 := a4) (a5 := a5) (a6 := a6) (a7 := a7) (a8 := a8) (a9 := a9) (a10 := a10) (a11 := a11) (a12 := a12) (a13 := a13) hp hq 8 0 (a1 p ^^^ a1 q) (by omega)
    refine ⟨r, fun post h => br_f e1 ⟨vp_in_nI hp (by omega), vp_in_nI hq (by omega), nm_r (by rw [nI_clamp (by omega), nI_clamp (by omega)]) ⟨9, h1 post h⟩⟩, fun post h => br_f (fun z => e1 z.symm) ⟨vp_in_nI hq (by omega), vp_in_nI hp (by omega), nm_r (by rw [nI_clamp (by omega), nI_clamp (by omega)]; exact cv_xorc _ _) ⟨9, h2 post h⟩⟩⟩
/-- difference ends, whatever it answers -/
theorem cv_dfA {post : Int32 → Prop} {t : Nat} {x y : Int32} {dm st ct br cl : Int32} {a1 a2 a3 a4 a5 a6 a7 a8 a9 a10 a11 a12 a13 : Nat → Int32} (ht : t ≤ 168) (hx : cv_at t x) (hy : cv_at t y) (H : ∀ r, post r) : wpX_difference post (dm, st, ct, br, cl, a1, a2, a3, a4, a5, a6, a7, a8, a9, a10, a11, a12, a13) x y := by
  obtain ⟨p, hp, e⟩ := hx
  obtain ⟨q, hq, f⟩ := hy
  rw [e, f]
  obtain ⟨r, h, _⟩ := cv_df (p := p) (q := q) (dm := dm) (st := st) (ct := ct) (br := br) (cl := cl) (a1 := a1) (a2 := a2) (a3 := a3) (a4 := a4) (a5 := a5) (a6 := a6) (a7 := a7) (a8 := a8) (a9 := a9) (a10 := a10) (a11 := a11) (a12 := a12) (a13 := a13) (by omega) (by omega)
  exact h post (H r)
/-! ===== ones ===== -/
def cv_b (v : Int32) (j : Nat) : Prop := ((v >>> (nI j &&& 31)) &&& 1) = 1
theorem cv_ones_l {v : Int32} : ∀ (k i s : Nat), i + k = 8 → ∃ m : Nat, m ≤ k ∧ (m = 0 ↔ ∀ j, i ≤ j → j < 8 → ¬ cv_b v j) ∧ ∀ post : Int32 → Prop, post (nI (s + m)) → wX_ones_4 post v (k + 1) (nI s) (nI i) := by
  intro k
  induction k with
  | zero =>
    intro i s hi
    exact ⟨0, by omega, ⟨fun _ j h1 h2 => absurd h2 (by omega), fun _ => rfl⟩, fun post hp => pk_le 8 i (fun _ => hp) (fun z => absurd z (by omega))⟩
  | succ k ih =>
    intro i s hi
    obtain ⟨d, hd, e⟩ := pk_andE (v >>> (nI i &&& 31)) (m := 1) 1 (by decide)
    obtain ⟨m, hm, hz, h⟩ := ih (i + 1) (s + d) (by omega)
    refine ⟨d + m, by omega, ⟨fun z j h1 h2 => ?_, fun z => ?_⟩, fun post hp => pk_le 8 i (fun z => absurd z (by omega)) (fun _ => nm_r (by rw [e, nI_add]) (nm_r (nI_1 i) (h post (by rw [Nat.add_assoc]; exact hp))))⟩
    · by_cases g : j = i
      · have hd0 : d = 0 := by omega
        rw [g]
        unfold cv_b
        rw [e, hd0]
        decide
      · exact hz.mp (by omega) j (by omega) h2
    · have hd0 : ¬ d = 1 := by
        intro hd1
        refine z i (by omega) (by omega) ?_
        unfold cv_b
        rw [e, hd1]
        rfl
      have hm0 := hz.mpr (fun j h1 h2 => z j (by omega) h2)
      omega
theorem cv_ones (v : Int32) : ∃ m : Nat, m ≤ 8 ∧ (m = 0 ↔ ∀ j, j < 8 → ¬ cv_b v j) ∧ ∀ post : Int32 → Prop, post (nI m) → wpX_ones post () v := by
  obtain ⟨m, hm, hz, h⟩ := cv_ones_l (v := v) 8 0 0 (by omega)
  refine ⟨m, hm, ⟨fun z j hj => hz.mp z j (by omega) hj, fun z => hz.mpr (fun j _ hj => z j hj)⟩, fun post hp => ⟨9, h post (by rw [Nat.zero_add]; exact hp)⟩⟩
theorem cv_onesA {post : Int32 → Prop} {v : Int32} (H : ∀ r, post r) : wpX_ones post () v := by
  obtain ⟨m, _, _, h⟩ := cv_ones v
  exact h post (H _)
/-! ===== differing and nextDifference over the sets D of a pair of commits ===== -/
theorem cv_dg_l {x y : Nat} {dm st ct br cl : Int32} {a1 a2 a3 a4 a5 a6 a7 a8 a9 a10 a11 a12 a13 : Nat → Int32} (hx : x < 20) (hy : y < 20) {D : Nat → Int32} (hD : ∀ c, c < 8 → (∀ post : Int32 → Prop, post (D c) → wpX_difference post (dm, st, ct, br, cl, a1, a2, a3, a4, a5, a6, a7, a8, a9, a10, a11, a12, a13) (a5 (8 * x + c)) (a5 (8 * y + c))) ∧ (∀ post : Int32 → Prop, post (D c) → wpX_difference post (dm, st, ct, br, cl, a1, a2, a3, a4, a5, a6, a7, a8, a9, a10, a11, a12, a13) (a5 (8 * y + c)) (a5 (8 * x + c)))) : ∀ (k i s : Nat), i + k = 8 → ∃ m : Nat, m ≤ 8 * k ∧ (m = 0 ↔ ∀ c, i ≤ c → c < 8 → ∀ j, j < 8 → ¬ cv_b (D c) j) ∧
    (∀ post : Int32 → Prop, post (nI (s + m)) → wX_differing_23 post (nI x) (nI y) dm st ct br cl a1 a2 a3 a4 a5 a6 a7 a8 a9 a10 a11 a12 a13 (k + 1) (nI s) (nI i)) ∧ (∀ post : Int32 → Prop, post (nI (s + m)) → wX_differing_23 post (nI y) (nI x) dm st ct br cl a1 a2 a3 a4 a5 a6 a7 a8 a9 a10 a11 a12 a13 (k + 1) (nI s) (nI i)) := by
  intro k
  induction k with
  | zero =>
    intro i s hi
    exact ⟨0, by omega, ⟨fun _ j h1 h2 => absurd h2 (by omega), fun _ => rfl⟩, fun post hp => pk_le 8 i (fun _ => hp) (fun z => absurd z (by omega)), fun post hp => pk_le 8 i (fun _ => hp) (fun z => absurd z (by omega))⟩
  | succ k ih =>
    intro i s hi
    obtain ⟨d, hd, hd0, ho⟩ := cv_ones (D i)
    obtain ⟨m, hm, hz, h, h'⟩ := ih (i + 1) (s + d) (by omega)
    refine ⟨d + m, by omega, ⟨fun z c h1 h2 => ?_, fun z => ?_⟩, fun post hp => pk_le 8 i (fun z => absurd z (by omega)) (fun _ => ⟨cv_in (by omega), cv_in (by omega), ?_⟩), fun post hp => pk_le 8 i (fun z => absurd z (by omega)) (fun _ => ⟨cv_in (by omega), cv_in (by omega), ?_⟩)⟩
    · by_cases g : c = i
      · rw [g]
        exact hd0.mp (by omega)
      · exact hz.mp (by omega) c (by omega) h2
    · have := hd0.mpr (z i (by omega) (by omega))
      have := hz.mpr (fun c h1 h2 => z c (by omega) h2)
      omega
    · rw [cv_cl (by omega), cv_cl (by omega)]
      exact (hD i (by omega)).1 _ (ho _ (nm_r (nI_add s d) (nm_r (nI_1 i) (h post (by rw [Nat.add_assoc]; exact hp)))))
    · rw [cv_cl (by omega), cv_cl (by omega)]
      exact (hD i (by omega)).2 _ (ho _ (nm_r (nI_add s d) (nm_r (nI_1 i) (h' post (by rw [Nat.add_assoc]; exact hp)))))
theorem cv_nd_i {post : Int32 → Prop} {J : Int32 → Prop} {x1 x2 : Int32} {c : Nat} {v : Int32} {dm st ct br cl : Int32} {a1 a2 a3 a4 a5 a6 a7 a8 a9 a10 a11 a12 a13 : Nat → Int32} (hc : c < 8) : ∀ (k i : Nat), i + k = 8 → ((∀ j, i ≤ j → j < 8 → ¬ cv_b v j) → J (nI (c + 1))) → (∀ j, i ≤ j → j < 8 → cv_b v j → post (nI (8 * c + j))) →
    wX_nextDifference_73 post J x1 x2 (-1) (nI c) v dm st ct br cl a1 a2 a3 a4 a5 a6 a7 a8 a9 a10 a11 a12 a13 (k + 1) (nI i) := by
  intro k
  induction k with
  | zero =>
    intro i hi hJ hp
    exact pk_le 8 i (fun _ => nm_r (nI_1 c) (hJ (fun j h1 h2 => absurd h2 (by omega)))) (fun z => absurd z (by omega))
  | succ k ih =>
    intro i hi hJ hp
    refine pk_le 8 i (fun z => absurd z (by omega)) (fun _ => br_c (fun g => br_f ?_ ?_) (fun g => nm_r (nI_1 i) (ih (i + 1) (by omega) (fun z => hJ (fun j h1 h2 => ?_)) (fun j h1 h2 h3 => hp j (by omega) h2 h3))))
    · rw [cv_8]
      intro z
      have z2 := Int32.le_iff_toInt_le.mp z
      rw [nI_toInt (by omega)] at z2
      have : (-1 : Int32).toInt = -1 := by decide
      omega
    · rw [cv_8]
      exact hp i (by omega) (by omega) g
    · by_cases e : j = i
      · rw [e]
        exact g
      · exact z j (by omega) h2
theorem cv_nd_l {post : Int32 → Prop} {x y : Nat} {dm st ct br cl : Int32} {a1 a2 a3 a4 a5 a6 a7 a8 a9 a10 a11 a12 a13 : Nat → Int32} (hx : x < 20) (hy : y < 20) {D : Nat → Int32} (hD : ∀ c, c < 8 → (∀ post : Int32 → Prop, post (D c) → wpX_difference post (dm, st, ct, br, cl, a1, a2, a3, a4, a5, a6, a7, a8, a9, a10, a11, a12, a13) (a5 (8 * x + c)) (a5 (8 * y + c)))) : ∀ (k i : Nat), i + k = 8 →
    ((∀ c, i ≤ c → c < 8 → ∀ j, j < 8 → ¬ cv_b (D c) j) → post (-2)) → (∀ c j, i ≤ c → c < 8 → j < 8 → cv_b (D c) j → post (nI (8 * c + j))) → wX_nextDifference_33 post (nI x) (nI y) (-1) dm st ct br cl a1 a2 a3 a4 a5 a6 a7 a8 a9 a10 a11 a12 a13 (k + 1) (nI i) := by
  intro k
  induction k with
  | zero =>
    intro i hi hN hp
    exact pk_le 8 i (fun _ => hN (fun c h1 h2 => absurd h2 (by omega))) (fun z => absurd z (by omega))
  | succ k ih =>
    intro i hi hN hp
    refine pk_le 8 i (fun z => absurd z (by omega)) (fun _ => ⟨cv_in (by omega), cv_in (by omega), ?_⟩)
    rw [cv_cl (by omega), cv_cl (by omega)]
    refine hD i (by omega) _ ⟨9, cv_nd_i (by omega) 8 0 (by omega) (fun z => ih (i + 1) (by omega) (fun z2 => hN (fun c h1 h2 => ?_)) (fun c j h1 h2 h3 h4 => hp c j (by omega) h2 h3 h4)) (fun j _ h2 h3 => hp i j (by omega) (by omega) h2 h3)⟩
    by_cases e : c = i
    · rw [e]
      exact fun j hj => z j (by omega) hj
    · exact z2 c (by omega) h2
/-! ===== base ===== -/
theorem cv_bs_l {v : Int32} {dm st ct br cl : Int32} {a1 a2 a3 a4 a5 a6 a7 a8 a9 a10 a11 a12 a13 : Nat → Int32} : ∀ i : Nat, i < 20 → ∃ r : Nat, r ≤ i ∧ ∀ post : Int32 → Prop, post (nI r) → wX_baseOf_26 post v dm st ct br cl a1 a2 a3 a4 a5 a6 a7 a8 a9 a10 a11 a12 a13 (i + 1) (nI i) := by
  intro i
  induction i with
  | zero =>
    intro _
    exact ⟨0, by omega, fun post hp => pk_le 0 0 (fun _ => hp) (fun z => absurd z (by omega))⟩
  | succ i ih =>
    intro hi
    by_cases e : ((v >>> (nI (i + 1) &&& 31)) &&& 1) = 0
    · obtain ⟨r, hr, h⟩ := ih (by omega)
      exact ⟨r, by omega, fun post hp => pk_le (i + 1) 0 (fun z => absurd z (by omega)) (fun _ => br_t e (nm_r (pk_m1 i) (h post hp)))⟩
    · exact ⟨i + 1, by omega, fun post hp => pk_le (i + 1) 0 (fun z => absurd z (by omega)) (fun _ => br_f e hp)⟩
theorem cv_bs {x y : Nat} {dm st ct br cl : Int32} {a1 a2 a3 a4 a5 a6 a7 a8 a9 a10 a11 a12 a13 : Nat → Int32} (hx : x < 20) (hy : y < 20) : ∃ r : Nat, r ≤ x ∧ r ≤ y ∧ (∀ post : Int32 → Prop, post (nI r) → wpX_baseOf post (dm, st, ct, br, cl, a1, a2, a3, a4, a5, a6, a7, a8, a9, a10, a11, a12, a13) (nI x) (nI y)) ∧ (∀ post : Int32 → Prop, post (nI r) → wpX_baseOf post (dm, st, ct, br, cl, a1, a2, a3, a4, a5, a6, a7, a8, a9, a10, a11, a12, a13) (nI y) (nI x)) := by
  obtain ⟨r, hr, h⟩ := cv_bs_l (v := a8 x &&& a8 y) (dm := dm) (st := st) (ct := ct) (br := br) (cl := cl) (a1 := a1) (a2 := a2) (a3 := a3) (a4 := a4) (a5 := a5) (a6 := a6) (a7 := a7) (a8 := a8) (a9 := a9) (a10 := a10) (a11 := a11) (a12 := a12) (a13 := a13) (min x y) (by omega)
  refine ⟨r, by omega, by omega, fun post hp => ⟨vp_in_nI hx (by omega), vp_in_nI hy (by omega), nm_r (e' := a8 x &&& a8 y) (by rw [nI_clamp (by omega), nI_clamp (by omega)]) ?_⟩, fun post hp => ⟨vp_in_nI hy (by omega), vp_in_nI hx (by omega), nm_r (e' := a8 x &&& a8 y) (by rw [nI_clamp (by omega), nI_clamp (by omega)]; exact cv_andc _ _) ?_⟩⟩
  · refine pk_le y x (fun z => ⟨y + 1, ?_⟩) (fun z => ⟨x + 1, ?_⟩)
    · have := h post hp
      rw [show min x y = y by omega] at this
      exact this
    · have := h post hp
      rw [show min x y = x by omega] at this
      exact this
  · refine pk_le x y (fun z => ⟨x + 1, ?_⟩) (fun z => ⟨y + 1, ?_⟩)
    · have := h post hp
      rw [show min x y = x by omega] at this
      exact this
    · have := h post hp
      rw [show min x y = y by omega] at this
      exact this
theorem cv_bsI {post : Int32 → Prop} {x : Nat} {dm st ct br cl : Int32} {a1 a2 a3 a4 a5 a6 a7 a8 a9 a10 a11 a12 a13 : Nat → Int32} (hx : x < 20) (h8 : cv_bt (a8 x) x = true) (hp : post (nI x)) : wpX_baseOf post (dm, st, ct, br, cl, a1, a2, a3, a4, a5, a6, a7, a8, a9, a10, a11, a12, a13) (nI x) (nI x) := by
  refine ⟨vp_in_nI hx (by omega), vp_in_nI hx (by omega), nm_r (e' := a8 x) (by rw [nI_clamp (by omega), cv_ands]) (pk_le x x (fun _ => ⟨1, ?_⟩) (fun z => absurd z (by omega)))⟩
  exact br_c (fun _ => hp) (fun _ => br_f (cv_test (by omega) h8) hp)
/-! ===== holds ===== -/
theorem cv_holds {post : Int32 → Prop} {n t x y : Nat} {dm st br cl : Int32} {a1 a2 a3 a4 a5 a6 a7 a8 a9 a10 a11 a12 a13 : Nat → Int32} (hn : n ≤ 20) (ht : t ≤ 168) (hx : x < n) (hy : y < n) (h5 : ∀ j, j < 8 * n → cv_at t (a5 j)) (h8 : ∀ j, j < n → cv_bt (a8 j) j = true) (hp : post 1) : wpL_holds post (dm, st, nI n, br, cl, a1, a2, a3, a4, a5, a6, a7, a8, a9, a10, a11, a12, a13) (nI x) (nI y) := by
  obtain ⟨r, hrx, hry, b1, b2⟩ := cv_bs (x := x) (y := y) (dm := dm) (st := st) (ct := nI n) (br := br) (cl := cl) (a1 := a1) (a2 := a2) (a3 := a3) (a4 := a4) (a5 := a5) (a6 := a6) (a7 := a7) (a8 := a8) (a9 := a9) (a10 := a10) (a11 := a11) (a12 := a12) (a13 := a13) (by omega) (by omega)
  have hd : ∀ c : Nat, ∃ d : Int32, c < 8 → (∀ post : Int32 → Prop, post d → wpX_difference post (dm, st, nI n, br, cl, a1, a2, a3, a4, a5, a6, a7, a8, a9, a10, a11, a12, a13) (a5 (8 * x + c)) (a5 (8 * y + c))) ∧ (∀ post : Int32 → Prop, post d → wpX_difference post (dm, st, nI n, br, cl, a1, a2, a3, a4, a5, a6, a7, a8, a9, a10, a11, a12, a13) (a5 (8 * y + c)) (a5 (8 * x + c))) := by
    intro c
    by_cases hc : c < 8
    · obtain ⟨p, h1, e1⟩ := h5 (8 * x + c) (by omega)
      obtain ⟨q, h2, e2⟩ := h5 (8 * y + c) (by omega)
      obtain ⟨d, d1, d2⟩ := cv_df (p := p) (q := q) (dm := dm) (st := st) (ct := nI n) (br := br) (cl := cl) (a1 := a1) (a2 := a2) (a3 := a3) (a4 := a4) (a5 := a5) (a6 := a6) (a7 := a7) (a8 := a8) (a9 := a9) (a10 := a10) (a11 := a11) (a12 := a12) (a13 := a13) (by omega) (by omega)
      rw [e1, e2]
      exact ⟨d, fun _ => ⟨d1, d2⟩⟩
    · exact ⟨0, fun z => absurd z hc⟩
  obtain ⟨D, hD⟩ := Classical.skolem.mp hd
  obtain ⟨m, hm, hz, g1, g2⟩ := cv_dg_l (dm := dm) (st := st) (ct := nI n) (br := br) (cl := cl) (a1 := a1) (a2 := a2) (a3 := a3) (a4 := a4) (a5 := a5) (a6 := a6) (a7 := a7) (a8 := a8) (a9 := a9) (a10 := a10) (a11 := a11) (a12 := a12) (a13 := a13) (D := D) (x := x) (y := y) (by omega) (by omega) hD 8 0 0 (by omega)
  rw [Nat.zero_add] at g1 g2
  have w0 : ∀ P : Int32 → Prop, P (nI r) → wpX_base P (dm, st, nI n, br, cl, a1, a2, a3, a4, a5, a6, a7, a8, a9, a10, a11, a12, a13) (nI x) (nI y) := fun P h => by unfold wpX_base; dsimp only; exact cv_isCommitN hn hx (br_f cv_10 (cv_isCommitN hn hy (br_f cv_10 (b1 _ h))))
  have w1 : ∀ P : Int32 → Prop, P (nI r) → wpX_base P (dm, st, nI n, br, cl, a1, a2, a3, a4, a5, a6, a7, a8, a9, a10, a11, a12, a13) (nI y) (nI x) := fun P h => by unfold wpX_base; dsimp only; exact cv_isCommitN hn hy (br_f cv_10 (cv_isCommitN hn hx (br_f cv_10 (b2 _ h))))
  have w2 : ∀ P : Int32 → Prop, P (nI x) → wpX_base P (dm, st, nI n, br, cl, a1, a2, a3, a4, a5, a6, a7, a8, a9, a10, a11, a12, a13) (nI x) (nI x) := fun P h => by unfold wpX_base; dsimp only; exact cv_isCommitN hn hx (br_f cv_10 (cv_isCommitN hn hx (br_f cv_10 (cv_bsI (by omega) (h8 x hx) h))))
  have w3 : ∀ P : Int32 → Prop, P (nI m) → wpX_differing P (dm, st, nI n, br, cl, a1, a2, a3, a4, a5, a6, a7, a8, a9, a10, a11, a12, a13) (nI x) (nI y) := fun P h => by unfold wpX_differing; dsimp only; exact cv_isCommitN hn hx (br_f cv_10 (cv_isCommitN hn hy (br_f cv_10 ⟨9, g1 _ h⟩)))
  have w4 : ∀ P : Int32 → Prop, P (nI m) → wpX_differing P (dm, st, nI n, br, cl, a1, a2, a3, a4, a5, a6, a7, a8, a9, a10, a11, a12, a13) (nI y) (nI x) := fun P h => by unfold wpX_differing; dsimp only; exact cv_isCommitN hn hy (br_f cv_10 (cv_isCommitN hn hx (br_f cv_10 ⟨9, g2 _ h⟩)))
  have w5 : ∀ P : Int32 → Prop, ((∀ c, c < 8 → ∀ j, j < 8 → ¬ cv_b (D c) j) → P (-2)) → (∀ c j, c < 8 → j < 8 → cv_b (D c) j → P (nI (8 * c + j))) → wpX_nextDifference P (dm, st, nI n, br, cl, a1, a2, a3, a4, a5, a6, a7, a8, a9, a10, a11, a12, a13) (nI x) (nI y) (-1) := fun P h1 h2 => by unfold wpX_nextDifference; dsimp only; exact cv_isCommitN hn hx (br_f cv_10 (cv_isCommitN hn hy (br_f cv_10 (br_t (by decide) ⟨9, cv_nd_l (by omega) (by omega) (fun c hc => (hD c hc).1) 8 0 (by omega) (fun z => h1 (fun c hc => z c (by omega) hc)) (fun c j _ hc hj hb => h2 c j hc hj hb)⟩))))
  have fin : ∀ z : Int32, wL_holds_70 post (nI x) (nI y) (nI m) z z dm st (nI n) br cl a1 a2 a3 a4 a5 a6 a7 a8 a9 a10 a11 a12 a13 := fun z => br_t rfl (w4 _ (br_t rfl (br_f (nI_pos (by omega)) hp)))
  unfold wpL_holds
  dsimp only
  refine w0 _ (w1 _ (br_t rfl (w2 _ (br_t rfl (w0 _ (br_t (nI_le hrx (by omega)) (w3 _ ?_)))))))
  refine pk_eq m 0 (fun e => w5 _ (fun _ => br_t rfl (fin 1)) (fun c j hc hj hb => absurd hb (hz.mp e c (by omega) hc j hj))) (fun e => w5 _ (fun z => absurd (hz.mpr (fun c _ hc => z c hc)) e) (fun c j hc hj hb => br_f ?_ (fin 0)))
  intro z
  have z2 : (nI (8 * c + j)).toInt = -2 := by rw [z]; decide
  rw [nI_toInt (by omega)] at z2
  omega
end
section
/-! ===== isDraft, intern ===== -/
theorem cv_isDraft_l {post : Int32 → Prop} {q : Nat} {dm st ct br cl : Int32} {a1 a2 a3 a4 a5 a6 a7 a8 a9 a10 a11 a12 a13 : Nat → Int32} (hq : q < 168) (H : ∀ r, post r) : ∀ (k i : Nat), i + k = 8 → wX_isDraft_17 post (nI q) dm st ct br cl a1 a2 a3 a4 a5 a6 a7 a8 a9 a10 a11 a12 a13 (k + 1) (nI i) := by
  intro k
  induction k with
  | zero =>
    intro i hi
    exact pk_le 8 i (fun _ => H 1) (fun z => absurd z (by omega))
  | succ k ih =>
    intro i hi
    exact pk_le 8 i (fun z => absurd z (by omega)) (fun _ => ⟨cv_in (by omega), vp_in_nI (by omega) (by omega), br_c (fun _ => nm_r (nI_1 i) (ih (i + 1) (by omega))) (fun _ => H 0)⟩)
theorem cv_isDraft {post : Int32 → Prop} {q : Nat} {dm st ct br cl : Int32} {a1 a2 a3 a4 a5 a6 a7 a8 a9 a10 a11 a12 a13 : Nat → Int32} (hq : q < 168) (H : ∀ r, post r) : wpX_isDraft post (dm, st, ct, br, cl, a1, a2, a3, a4, a5, a6, a7, a8, a9, a10, a11, a12, a13) (nI q) :=
  ⟨vp_in_nI hq (by omega), br_c (fun _ => ⟨9, cv_isDraft_l hq H 8 0 (by omega)⟩) (fun _ => H 0)⟩
theorem cv_in_108 {post : Int32 → St1 → Prop} {t q : Nat} {dm ct br cl : Int32} {a1 a2 a3 a4 a5 a6 a7 a8 a9 a10 a11 a12 a13 : Nat → Int32} (ht : t < 168) (hq : q < 32)
    (H : ∀ b2 : Nat → Int32, (∀ j, j < 8 * t → b2 j = a2 j) → post (nI t) (dm, nI (t + 1), ct, br, cl, a1, b2, upd a3 t (a4 q), upd a4 q (nI t), a5, a6, a7, a8, a9, a10, a11, a12, a13)) :
    ∀ (k i : Nat) (b2 : Nat → Int32), i + k = 8 → (∀ j, j < 8 * t → b2 j = a2 j) → wX_intern_108 post (nI q) dm (nI t) ct br cl (k + 1) (nI i) a1 b2 a3 a4 a5 a6 a7 a8 a9 a10 a11 a12 a13 := by
  intro k
  induction k with
  | zero =>
    intro i b2 hi hb
    refine pk_le 8 i (fun _ => ⟨vp_in_nI hq (by omega), vp_in_nI ht (by omega), nm_r (e' := upd a3 t (a4 q)) (by rw [nI_clamp (by omega), nI_clamp (by omega)]) ⟨vp_in_nI hq (by omega), nm_r (e' := upd a4 q (nI t)) (by rw [nI_clamp (by omega)]) (nm_r (nI_1 t) ?_)⟩⟩) (fun z => absurd z (by omega))
    rw [nI_pred]
    exact H b2 hb
  | succ k ih =>
    intro i b2 hi hb
    refine pk_le 8 i (fun z => absurd z (by omega)) (fun _ => ⟨vp_in_nI (by omega) (by omega), cv_in (by omega), nm_e (nm_r (nI_1 i) (ih (i + 1) _ (by omega) (fun j hj => ?_)))⟩)
    rw [cv_cl (by omega), pk_un (by omega)]
    exact hb j hj
theorem cv_in_92 {post : Int32 → St1 → Prop} {t q : Nat} {dm ct br cl : Int32} {a1 a2 a3 a4 a5 a6 a7 a8 a9 a10 a11 a12 a13 : Nat → Int32} (ht : t < 168) (hq : q < 32) (hs : cv_store t a3 a4)
    (H : ∀ (k t' : Nat) (b1 b2 b3 b4 : Nat → Int32), k < t' → t ≤ t' → t' ≤ t + 1 → cv_store t' b3 b4 → (∀ j, j < t → b1 j = a1 j) → (∀ j, j < 8 * t → b2 j = a2 j) → post (nI k) (dm, nI t', ct, br, cl, b1, b2, b3, b4, a5, a6, a7, a8, a9, a10, a11, a12, a13)) :
    wX_intern_92 post (nI q) dm (nI t) ct br cl a1 a2 a3 a4 a5 a6 a7 a8 a9 a10 a11 a12 a13 := by
  refine ⟨vp_in_nI ht (by omega), nm_r (e' := upd a1 t dm) (by rw [nI_clamp (by omega)]) ⟨9, cv_in_108 ht hq (fun b2 hb => ?_) 8 0 a2 (by omega) (fun j _ => rfl)⟩⟩
  refine H t (t + 1) _ _ _ _ (by omega) (by omega) (by omega) ⟨?_, ?_⟩ (cv_un (by omega)) hb
  · exact cv_upd (fun j hj _ => cv_opt_le (by omega) (hs.1 j hj)) (cv_at_o (cv_nI (by omega)))
  · exact cv_upd (fun j hj hk => cv_opt_le (by omega) (hs.2 j (by omega))) (cv_opt_le (by omega) (hs.1 q hq))
theorem cv_in_56 {post : Int32 → St1 → Prop} {t q : Nat} {dm ct br cl : Int32} {a1 a2 a3 a4 a5 a6 a7 a8 a9 a10 a11 a12 a13 : Nat → Int32} (ht : t < 168) (hq : q < 32) (hs : cv_store t a3 a4)
    (H : ∀ (k t' : Nat) (b1 b2 b3 b4 : Nat → Int32), k < t' → t ≤ t' → t' ≤ t + 1 → cv_store t' b3 b4 → (∀ j, j < t → b1 j = a1 j) → (∀ j, j < 8 * t → b2 j = a2 j) → post (nI k) (dm, nI t', ct, br, cl, b1, b2, b3, b4, a5, a6, a7, a8, a9, a10, a11, a12, a13)) :
    ∀ (k i : Nat) (x : Int32), i + k = 168 → cv_opt t x → wX_intern_56 post (nI q) dm (nI t) ct br cl a1 a2 a3 a4 a5 a6 a7 a8 a9 a10 a11 a12 a13 (k + 1) x (nI i) := by
  intro k
  induction k with
  | zero =>
    intro i x hi hx
    exact pk_le 168 i (fun _ => cv_in_92 ht hq hs H) (fun z => absurd z (by omega))
  | succ k ih =>
    intro i x hi hx
    refine pk_le 168 i (fun z => absurd z (by omega)) (fun _ => br_c (fun _ => cv_in_92 ht hq hs H) (fun g => ?_))
    rcases hx with hx | ⟨c, hc, e⟩
    · exact absurd hx g
    · rw [e]
      refine cv_isDraft (by omega) (fun r => br_c (fun _ => ⟨vp_in_nI (by omega) (by omega), nm_r (e' := a3 c) (by rw [nI_clamp (by omega)]) (nm_r (nI_1 i) (ih (i + 1) _ (by omega) (hs.2 c hc)))⟩) (fun _ => ?_))
      exact H c t a1 a2 a3 a4 hc (by omega) (by omega) hs (fun _ _ => rfl) (fun _ _ => rfl)
theorem cv_in_7 {post : Int32 → St1 → Prop} {t : Nat} {dm ct br cl : Int32} {a1 a2 a3 a4 a5 a6 a7 a8 a9 a10 a11 a12 a13 : Nat → Int32} (ht : t < 168) (hs : cv_store t a3 a4)
    (H : ∀ (k t' : Nat) (b1 b2 b3 b4 : Nat → Int32), k < t' → t ≤ t' → t' ≤ t + 1 → cv_store t' b3 b4 → (∀ j, j < t → b1 j = a1 j) → (∀ j, j < 8 * t → b2 j = a2 j) → post (nI k) (dm, nI t', ct, br, cl, b1, b2, b3, b4, a5, a6, a7, a8, a9, a10, a11, a12, a13)) :
    ∀ (k i : Nat) (x : Int32), i + k = 8 → wX_intern_7 post dm (nI t) ct br cl a1 a2 a3 a4 a5 a6 a7 a8 a9 a10 a11 a12 a13 (k + 1) x (nI i) := by
  intro k
  induction k with
  | zero =>
    intro i x hi
    obtain ⟨q, hq, e⟩ := pk_andE ((x ^^^ ((x.toUInt32 >>> ((7 : Int32).toUInt32 &&& Int32.toUInt32 31)).toInt32)) ^^^ ((x.toUInt32 >>> ((19 : Int32).toUInt32 &&& Int32.toUInt32 31)).toInt32)) (m := 31) 5 (by decide)
    exact pk_le 8 i (fun _ => nm_r e ⟨vp_in_nI hq (by omega), nm_r (e' := a4 q) (by rw [nI_clamp (by omega)]) ⟨169, cv_in_56 ht hq hs H 168 0 _ (by omega) (hs.1 q hq)⟩⟩) (fun z => absurd z (by omega))
  | succ k ih =>
    intro i x hi
    exact pk_le 8 i (fun z => absurd z (by omega)) (fun _ => ⟨vp_in_nI (by omega) (by omega), nm_e (nm_r (nI_1 i) (ih (i + 1) _ (by omega)))⟩)
theorem cv_intern {post : Int32 → St1 → Prop} {t : Nat} {dm ct br cl : Int32} {a1 a2 a3 a4 a5 a6 a7 a8 a9 a10 a11 a12 a13 : Nat → Int32} (ht : t < 168) (hs : cv_store t a3 a4)
    (H : ∀ (k t' : Nat) (b1 b2 b3 b4 : Nat → Int32), k < t' → t ≤ t' → t' ≤ t + 1 → cv_store t' b3 b4 → (∀ j, j < t → b1 j = a1 j) → (∀ j, j < 8 * t → b2 j = a2 j) → post (nI k) (dm, nI t', ct, br, cl, b1, b2, b3, b4, a5, a6, a7, a8, a9, a10, a11, a12, a13)) :
    wpX_intern post (dm, nI t, ct, br, cl, a1, a2, a3, a4, a5, a6, a7, a8, a9, a10, a11, a12, a13) := ⟨9, cv_in_7 ht hs H 8 0 dm (by omega)⟩
theorem cv_in2_108 {post : Int32 → St1 → Prop} {t q : Nat} {dm ct br cl : Int32} {a1 a2 a3 a4 a5 a6 a7 a8 a9 a10 a11 a12 a13 : Nat → Int32} (ht : t < 168) (hq : q < 32)
    (H : ∀ b2 : Nat → Int32, (∀ j, j < 8 * t → b2 j = a2 j) → post (nI t) (dm, nI (t + 1), ct, br, cl, a1, b2, upd a3 t (a4 q), upd a4 q (nI t), a5, a6, a7, a8, a9, a10, a11, a12, a13)) :
    ∀ (k i : Nat) (b2 : Nat → Int32), i + k = 8 → (∀ j, j < 8 * t → b2 j = a2 j) → wX_intern_2_108 post (nI q) dm (nI t) ct br cl (k + 1) (nI i) a1 b2 a3 a4 a5 a6 a7 a8 a9 a10 a11 a12 a13 := by
  intro k
  induction k with
  | zero =>
    intro i b2 hi hb
    refine pk_le 8 i (fun _ => ⟨vp_in_nI hq (by omega), vp_in_nI ht (by omega), nm_r (e' := upd a3 t (a4 q)) (by rw [nI_clamp (by omega), nI_clamp (by omega)]) ⟨vp_in_nI hq (by omega), nm_r (e' := upd a4 q (nI t)) (by rw [nI_clamp (by omega)]) (nm_r (nI_1 t) ?_)⟩⟩) (fun z => absurd z (by omega))
    rw [nI_pred]
    exact H b2 hb
  | succ k ih =>
    intro i b2 hi hb
    refine pk_le 8 i (fun z => absurd z (by omega)) (fun _ => ⟨vp_in_nI (by omega) (by omega), cv_in (by omega), nm_e (nm_r (nI_1 i) (ih (i + 1) _ (by omega) (fun j hj => ?_)))⟩)
    rw [cv_cl (by omega), pk_un (by omega)]
    exact hb j hj
theorem cv_in2_92 {post : Int32 → St1 → Prop} {t q : Nat} {dm ct br cl : Int32} {a1 a2 a3 a4 a5 a6 a7 a8 a9 a10 a11 a12 a13 : Nat → Int32} (ht : t < 168) (hq : q < 32) (hs : cv_store t a3 a4)
    (H : ∀ (k t' : Nat) (b1 b2 b3 b4 : Nat → Int32), k < t' → t ≤ t' → t' ≤ t + 1 → cv_store t' b3 b4 → (∀ j, j < t → b1 j = a1 j) → (∀ j, j < 8 * t → b2 j = a2 j) → post (nI k) (dm, nI t', ct, br, cl, b1, b2, b3, b4, a5, a6, a7, a8, a9, a10, a11, a12, a13)) :
    wX_intern_2_92 post (nI q) dm (nI t) ct br cl a1 a2 a3 a4 a5 a6 a7 a8 a9 a10 a11 a12 a13 := by
  refine ⟨vp_in_nI ht (by omega), nm_r (e' := upd a1 t dm) (by rw [nI_clamp (by omega)]) ⟨9, cv_in2_108 ht hq (fun b2 hb => ?_) 8 0 a2 (by omega) (fun j _ => rfl)⟩⟩
  refine H t (t + 1) _ _ _ _ (by omega) (by omega) (by omega) ⟨?_, ?_⟩ (cv_un (by omega)) hb
  · exact cv_upd (fun j hj _ => cv_opt_le (by omega) (hs.1 j hj)) (cv_at_o (cv_nI (by omega)))
  · exact cv_upd (fun j hj hk => cv_opt_le (by omega) (hs.2 j (by omega))) (cv_opt_le (by omega) (hs.1 q hq))
theorem cv_in2_56 {post : Int32 → St1 → Prop} {t q : Nat} {dm ct br cl : Int32} {a1 a2 a3 a4 a5 a6 a7 a8 a9 a10 a11 a12 a13 : Nat → Int32} (ht : t < 168) (hq : q < 32) (hs : cv_store t a3 a4)
    (H : ∀ (k t' : Nat) (b1 b2 b3 b4 : Nat → Int32), k < t' → t ≤ t' → t' ≤ t + 1 → cv_store t' b3 b4 → (∀ j, j < t → b1 j = a1 j) → (∀ j, j < 8 * t → b2 j = a2 j) → post (nI k) (dm, nI t', ct, br, cl, b1, b2, b3, b4, a5, a6, a7, a8, a9, a10, a11, a12, a13)) :
    ∀ (k i : Nat) (x : Int32), i + k = 168 → cv_opt t x → wX_intern_2_56 post (nI q) dm (nI t) ct br cl a1 a2 a3 a4 a5 a6 a7 a8 a9 a10 a11 a12 a13 (k + 1) x (nI i) := by
  intro k
  induction k with
  | zero =>
    intro i x hi hx
    exact pk_le 168 i (fun _ => cv_in2_92 ht hq hs H) (fun z => absurd z (by omega))
  | succ k ih =>
    intro i x hi hx
    refine pk_le 168 i (fun z => absurd z (by omega)) (fun _ => br_c (fun _ => cv_in2_92 ht hq hs H) (fun g => ?_))
    rcases hx with hx | ⟨c, hc, e⟩
    · exact absurd hx g
    · rw [e]
      refine cv_isDraft (by omega) (fun r => br_c (fun _ => ⟨vp_in_nI (by omega) (by omega), nm_r (e' := a3 c) (by rw [nI_clamp (by omega)]) (nm_r (nI_1 i) (ih (i + 1) _ (by omega) (hs.2 c hc)))⟩) (fun _ => ?_))
      exact H c t a1 a2 a3 a4 hc (by omega) (by omega) hs (fun _ _ => rfl) (fun _ _ => rfl)
theorem cv_in2_7 {post : Int32 → St1 → Prop} {t : Nat} {dm ct br cl : Int32} {a1 a2 a3 a4 a5 a6 a7 a8 a9 a10 a11 a12 a13 : Nat → Int32} (ht : t < 168) (hs : cv_store t a3 a4)
    (H : ∀ (k t' : Nat) (b1 b2 b3 b4 : Nat → Int32), k < t' → t ≤ t' → t' ≤ t + 1 → cv_store t' b3 b4 → (∀ j, j < t → b1 j = a1 j) → (∀ j, j < 8 * t → b2 j = a2 j) → post (nI k) (dm, nI t', ct, br, cl, b1, b2, b3, b4, a5, a6, a7, a8, a9, a10, a11, a12, a13)) :
    ∀ (k i : Nat) (x : Int32), i + k = 8 → wX_intern_2_7 post dm (nI t) ct br cl a1 a2 a3 a4 a5 a6 a7 a8 a9 a10 a11 a12 a13 (k + 1) x (nI i) := by
  intro k
  induction k with
  | zero =>
    intro i x hi
    obtain ⟨q, hq, e⟩ := pk_andE ((x ^^^ ((x.toUInt32 >>> ((7 : Int32).toUInt32 &&& Int32.toUInt32 31)).toInt32)) ^^^ ((x.toUInt32 >>> ((19 : Int32).toUInt32 &&& Int32.toUInt32 31)).toInt32)) (m := 31) 5 (by decide)
    exact pk_le 8 i (fun _ => nm_r e ⟨vp_in_nI hq (by omega), nm_r (e' := a4 q) (by rw [nI_clamp (by omega)]) ⟨169, cv_in2_56 ht hq hs H 168 0 _ (by omega) (hs.1 q hq)⟩⟩) (fun z => absurd z (by omega))
  | succ k ih =>
    intro i x hi
    exact pk_le 8 i (fun z => absurd z (by omega)) (fun _ => ⟨vp_in_nI (by omega) (by omega), nm_e (nm_r (nI_1 i) (ih (i + 1) _ (by omega)))⟩)
theorem cv_intern_2 {post : Int32 → St1 → Prop} {t : Nat} {dm ct br cl : Int32} {a1 a2 a3 a4 a5 a6 a7 a8 a9 a10 a11 a12 a13 : Nat → Int32} (ht : t < 168) (hs : cv_store t a3 a4)
    (H : ∀ (k t' : Nat) (b1 b2 b3 b4 : Nat → Int32), k < t' → t ≤ t' → t' ≤ t + 1 → cv_store t' b3 b4 → (∀ j, j < t → b1 j = a1 j) → (∀ j, j < 8 * t → b2 j = a2 j) → post (nI k) (dm, nI t', ct, br, cl, b1, b2, b3, b4, a5, a6, a7, a8, a9, a10, a11, a12, a13)) :
    wpX_intern_2 post (dm, nI t, ct, br, cl, a1, a2, a3, a4, a5, a6, a7, a8, a9, a10, a11, a12, a13) := ⟨9, cv_in2_7 ht hs H 8 0 dm (by omega)⟩
/-! ===== takeChunk, checkout ===== -/
theorem cv_tk_l {post : St1 → Prop} {c q : Nat} {dm st ct br cl : Int32} {a1 a2 a3 a4 a5 a6 a7 a8 a9 a10 a12 a13 : Nat → Int32} (hc : c < 8) (hq : q < 168) (H : ∀ b11 : Nat → Int32, post (dm, st, ct, br, cl, a1, a2, a3, a4, a5, a6, a7, a8, a9, a10, b11, upd a12 c (nI q), a13)) :
    ∀ (k i : Nat) (b11 : Nat → Int32), i + k = 8 → wX_takeChunk_14 post (nI c) (nI q) dm st ct br cl (k + 1) (nI i) a1 a2 a3 a4 a5 a6 a7 a8 a9 a10 b11 a12 a13 := by
  intro k
  induction k with
  | zero =>
    intro i b11 hi
    exact pk_le 8 i (fun _ => ⟨vp_in_nI hc (by omega), nm_r (e' := upd a12 c (nI q)) (by rw [nI_clamp (by omega)]) (H b11)⟩) (fun z => absurd z (by omega))
  | succ k ih =>
    intro i b11 hi
    exact pk_le 8 i (fun z => absurd z (by omega)) (fun _ => ⟨cv_in (by omega), cv_in (by omega), nm_e (nm_r (nI_1 i) (ih (i + 1) _ (by omega)))⟩)
theorem cv_tk {post : St1 → Prop} {c q : Nat} {dm st ct br cl : Int32} {a1 a2 a3 a4 a5 a6 a7 a8 a9 a10 a11 a12 a13 : Nat → Int32} (hc : c < 8) (hq : q < 168) (H : ∀ b10 b11 : Nat → Int32, post (dm, st, ct, br, cl, a1, a2, a3, a4, a5, a6, a7, a8, a9, b10, b11, upd a12 c (nI q), a13)) : wpX_takeChunk post (dm, st, ct, br, cl, a1, a2, a3, a4, a5, a6, a7, a8, a9, a10, a11, a12, a13) (nI c) (nI q) :=
  ⟨vp_in_nI hq (by omega), vp_in_nI hc (by omega), nm_e ⟨9, cv_tk_l hc hq (H _) 8 0 a11 (by omega)⟩⟩
theorem cv_co_l {post : Int32 → St1 → Prop} {x t : Nat} {dm st ct br cl : Int32} {a1 a2 a3 a4 a5 a6 a7 a8 a9 a13 : Nat → Int32} (hx : x < 20) (ht : t ≤ 168) (h5 : ∀ c, c < 8 → cv_at t (a5 (8 * x + c)))
    (H : ∀ (r : Int32) (b10 b11 b12 : Nat → Int32), (∀ c, c < 8 → b12 c = a5 (8 * x + c)) → post r (dm, st, ct, br, cl, a1, a2, a3, a4, a5, a6, a7, a8, a9, b10, b11, b12, a13)) :
    ∀ (k i : Nat) (s : Int32) (b10 b11 b12 : Nat → Int32), i + k = 8 → (∀ c, c < i → b12 c = a5 (8 * x + c)) → wX_checkout_14 post (nI x) (k + 1) s (nI i) dm st ct br cl a1 a2 a3 a4 a5 a6 a7 a8 a9 b10 b11 b12 a13 := by
  intro k
  induction k with
  | zero =>
    intro i s b10 b11 b12 hi hb
    exact pk_le 8 i (fun _ => H s b10 b11 b12 (fun c hc => hb c (by omega))) (fun z => absurd z (by omega))
  | succ k ih =>
    intro i s b10 b11 b12 hi hb
    obtain ⟨q, hq, e⟩ := h5 i (by omega)
    refine pk_le 8 i (fun z => absurd z (by omega)) (fun _ => ⟨cv_in (by omega), nm_r (e' := nI q) (by rw [cv_cl (by omega), e]) ⟨vp_in_nI (by omega) (by omega), br_c (fun g => nm_r (nI_1 i) (ih (i + 1) _ _ _ _ (by omega) (fun c hc => ?_))) (fun _ => ?_)⟩⟩)
    · by_cases ec : c = i
      · rw [nI_clamp (by omega)] at g
        rw [ec, e, g]
      · exact hb c (by omega)
    · obtain ⟨d, hd⟩ := cv_dw (c := i) (q := q) (dm := dm) (st := st) (ct := ct) (br := br) (cl := cl) (a1 := a1) (a2 := a2) (a3 := a3) (a4 := a4) (a5 := a5) (a6 := a6) (a7 := a7) (a8 := a8) (a9 := a9) (a10 := b10) (a11 := b11) (a12 := b12) (a13 := a13) (by omega) (by omega)
      refine hd _ (nm_e (cv_tk (by omega) (by omega) (fun c10 c11 => nm_r (nI_1 i) (ih (i + 1) _ _ _ _ (by omega) (fun c hc => ?_)))))
      by_cases ec : c = i
      · rw [ec, pk_us, e]
      · rw [pk_un ec]
        exact hb c (by omega)
theorem cv_co {post : Int32 → St1 → Prop} {x n t : Nat} {dm st br cl : Int32} {a1 a2 a3 a4 a5 a6 a7 a8 a9 a10 a11 a12 a13 : Nat → Int32} (hn : n ≤ 20) (hx : x < n) (ht : t ≤ 168) (h5 : ∀ j, j < 8 * n → cv_at t (a5 j))
    (H : ∀ (r : Int32) (b10 b11 b12 : Nat → Int32), (∀ c, c < 8 → b12 c = a5 (8 * x + c)) → post r (dm, st, nI n, br, cl, a1, a2, a3, a4, a5, a6, a7, a8, a9, b10, b11, b12, a13)) : wpX_checkout post (dm, st, nI n, br, cl, a1, a2, a3, a4, a5, a6, a7, a8, a9, a10, a11, a12, a13) (nI x) := by
  unfold wpX_checkout
  dsimp only
  exact cv_isCommitN hn hx (br_f cv_10 ⟨9, cv_co_l (by omega) ht (fun c hc => h5 _ (by omega)) H 8 0 0 _ _ _ (by omega) (fun c hc => absurd hc (by omega))⟩)
/-! ===== clashesIn, countClashes ===== -/
theorem cv_ci {post : Int32 → Prop} {t : Nat} {x y z : Int32} {dm st ct br cl : Int32} {a1 a2 a3 a4 a5 a6 a7 a8 a9 a10 a11 a12 a13 : Nat → Int32} (ht : t ≤ 168) (hx : cv_at t x) (hy : cv_at t y) (hz : cv_at t z) (H : ∀ r, post r) : wpX_clashesIn post (dm, st, ct, br, cl, a1, a2, a3, a4, a5, a6, a7, a8, a9, a10, a11, a12, a13) x y z := by
  unfold wpX_clashesIn
  dsimp only
  exact cv_dfA ht hy hz (fun _ => cv_dfA ht hy hx (fun _ => cv_dfA ht hz hx (fun _ => H _)))
theorem cv_cc_l {post : Int32 → Prop} {x y z t : Nat} {dm st ct br cl : Int32} {a1 a2 a3 a4 a5 a6 a7 a8 a9 a10 a11 a12 a13 : Nat → Int32} (hx : x < 20) (hy : y < 20) (hz : z < 20) (ht : t ≤ 168) (kx : ∀ c, c < 8 → cv_at t (a5 (8 * x + c))) (ky : ∀ c, c < 8 → cv_at t (a5 (8 * y + c))) (kz : ∀ c, c < 8 → cv_at t (a5 (8 * z + c))) (H : ∀ r, post r) :
    ∀ (k i : Nat) (s : Int32), i + k = 8 → wX_countClashes_6 post (nI x) (nI y) (nI z) dm st ct br cl a1 a2 a3 a4 a5 a6 a7 a8 a9 a10 a11 a12 a13 (k + 1) s (nI i) := by
  intro k
  induction k with
  | zero =>
    intro i s hi
    exact pk_le 8 i (fun _ => H s) (fun z => absurd z (by omega))
  | succ k ih =>
    intro i s hi
    refine pk_le 8 i (fun z => absurd z (by omega)) (fun _ => ⟨cv_in (by omega), cv_in (by omega), cv_in (by omega), ?_⟩)
    rw [cv_cl (by omega), cv_cl (by omega), cv_cl (by omega)]
    exact cv_ci ht (kx i (by omega)) (ky i (by omega)) (kz i (by omega)) (fun _ => cv_onesA (fun _ => nm_e (nm_r (nI_1 i) (ih (i + 1) _ (by omega)))))
theorem cv_cc {post : Int32 → Prop} {x y z n t : Nat} {dm st ct br cl : Int32} {a1 a2 a3 a4 a5 a6 a7 a8 a9 a10 a11 a12 a13 : Nat → Int32} (hn : n ≤ 20) (hx : x < n) (hy : y < n) (hz : z < n) (ht : t ≤ 168) (h5 : ∀ j, j < 8 * n → cv_at t (a5 j)) (H : ∀ r, post r) : wpX_countClashes post (dm, st, ct, br, cl, a1, a2, a3, a4, a5, a6, a7, a8, a9, a10, a11, a12, a13) (nI x) (nI y) (nI z) :=
  ⟨9, cv_cc_l (by omega) (by omega) (by omega) ht (fun c hc => h5 _ (by omega)) (fun c hc => h5 _ (by omega)) (fun c hc => h5 _ (by omega)) H 8 0 0 (by omega)⟩
/-! ===== joinChunks, join ===== -/
theorem cv_jc_l {post : Int32 → St1 → Prop} {p q t : Nat} {v : Int32} {dm ct br cl : Int32} {a1 a2 a3 a4 a5 a6 a7 a8 a9 a10 a11 a12 : Nat → Int32} (ht : t < 168) (hp : p < 168) (hq : q < 168) (hs : cv_store t a3 a4)
    (H : ∀ (k t' : Nat) (b1 b2 b3 b4 b13 : Nat → Int32), k < t' → t ≤ t' → t' ≤ t + 1 → cv_store t' b3 b4 → (∀ j, j < t → b1 j = a1 j) → (∀ j, j < 8 * t → b2 j = a2 j) → post (nI k) (dm, nI t', ct, br, cl, b1, b2, b3, b4, a5, a6, a7, a8, a9, a10, a11, a12, b13)) :
    ∀ (k i : Nat) (b13 : Nat → Int32), i + k = 8 → wX_joinChunks_86 post (nI p) (nI q) v dm (nI t) ct br cl (k + 1) (nI i) a1 a2 a3 a4 a5 a6 a7 a8 a9 a10 a11 a12 b13 := by
  intro k
  induction k with
  | zero =>
    intro i b13 hi
    exact pk_le 8 i (fun _ => cv_intern ht hs (fun k t' b1 b2 b3 b4 h1 h2 h3 h4 h5 h6 => H k t' b1 b2 b3 b4 b13 h1 h2 h3 h4 h5 h6)) (fun z => absurd z (by omega))
  | succ k ih =>
    intro i b13 hi
    exact pk_le 8 i (fun z => absurd z (by omega)) (fun _ => br_c
      (fun _ => br_f cv_10 ⟨cv_in (by omega), vp_in_nI (by omega) (by omega), nm_e (nm_r (nI_1 i) (ih (i + 1) _ (by omega)))⟩)
      (fun _ => br_t rfl ⟨cv_in (by omega), vp_in_nI (by omega) (by omega), nm_e (nm_r (nI_1 i) (ih (i + 1) _ (by omega)))⟩))
theorem cv_jc {post : Int32 → St1 → Prop} {t : Nat} {x y z side : Int32} {dm ct br cl : Int32} {a1 a2 a3 a4 a5 a6 a7 a8 a9 a10 a11 a12 a13 : Nat → Int32} (ht : t < 168) (hx : cv_at t x) (hy : cv_at t y) (hz : cv_at t z) (hs : cv_store t a3 a4)
    (H : ∀ (k t' : Nat) (dm' cl' : Int32) (b1 b2 b3 b4 b13 : Nat → Int32), k < t' → t ≤ t' → t' ≤ t + 1 → cv_store t' b3 b4 → (∀ j, j < t → b1 j = a1 j) → (∀ j, j < 8 * t → b2 j = a2 j) → post (nI k) (dm', nI t', ct, br, cl', b1, b2, b3, b4, a5, a6, a7, a8, a9, a10, a11, a12, b13)) :
    wpX_joinChunks post (dm, nI t, ct, br, cl, a1, a2, a3, a4, a5, a6, a7, a8, a9, a10, a11, a12, a13) x y z side := by
  have tail : ∀ v w : Int32, wX_joinChunks_42 post y z v w dm (nI t) ct br cl a1 a2 a3 a4 a5 a6 a7 a8 a9 a10 a11 a12 a13 := by
    intro v w
    obtain ⟨p, hp, e⟩ := hy
    obtain ⟨q, hq, f⟩ := hz
    rw [e, f]
    unfold wX_joinChunks_42
    exact cv_onesA (fun r => nm_e ⟨vp_in_nI (by omega) (by omega), vp_in_nI (by omega) (by omega), nm_e ⟨9, cv_jc_l ht (by omega) (by omega) hs (fun k t' b1 b2 b3 b4 b13 h1 h2 h3 h4 h5 h6 => H k t' _ _ b1 b2 b3 b4 b13 h1 h2 h3 h4 h5 h6) 8 0 a13 (by omega)⟩⟩)
  unfold wpX_joinChunks
  dsimp only
  exact cv_ci (by omega) hx hy hz (fun _ => cv_dfA (by omega) hz hx (fun _ => cv_dfA (by omega) hy hx (fun _ => nm_e (br_c (fun _ => tail _ _) (fun _ => tail _ _)))))
theorem cv_jn_l {post : St1 → Prop} {x y z n t : Nat} {side : Int32} {br : Int32} {a1 a2 a5 a6 a7 a8 a9 a10 a11 a12 : Nat → Int32} (hn : n < 20) (hx : x < n) (hy : y < n) (hz : z < n) (ht : t ≤ 153)
    (h5 : ∀ j, j < 8 * n → cv_at t (a5 j))
    (H : ∀ (t' : Nat) (dm' cl' : Int32) (b1 b2 b3 b4 b5 b13 : Nat → Int32), t ≤ t' → t' ≤ t + 8 → cv_store t' b3 b4 → cv_fr n t a1 a2 a5 b1 b2 b5 → (∀ j, j < 8 * (n + 1) → cv_at t' (b5 j)) → post (dm', nI t', nI n, br, cl', b1, b2, b3, b4, b5, a6, a7, a8, a9, a10, a11, a12, b13)) :
    ∀ (k i t' : Nat) (dm' cl' : Int32) (b1 b2 b3 b4 b5 b13 : Nat → Int32), i + k = 8 → t ≤ t' → t' ≤ t + i → cv_store t' b3 b4 → cv_fr n t a1 a2 a5 b1 b2 b5 → (∀ j, j < 8 * n + i → cv_at t' (b5 j)) →
    wX_join_8 post (nI x) (nI y) (nI z) side (k + 1) (nI i) dm' (nI t') (nI n) br cl' b1 b2 b3 b4 b5 a6 a7 a8 a9 a10 a11 a12 b13 := by
  intro k
  induction k with
  | zero =>
    intro i t' dm' cl' b1 b2 b3 b4 b5 b13 hi g1 g2 g3 g4 g5
    exact pk_le 8 i (fun _ => H t' dm' cl' b1 b2 b3 b4 b5 b13 g1 (by omega) g3 g4 (fun j hj => g5 j (by omega))) (fun z => absurd z (by omega))
  | succ k ih =>
    intro i t' dm' cl' b1 b2 b3 b4 b5 b13 hi g1 g2 g3 g4 g5
    have put : ∀ (t2 : Nat) (dm2 cl2 : Int32) (c1 c2 c3 c4 c13 : Nat → Int32) (v : Int32), t' ≤ t2 → t2 ≤ t + (i + 1) → cv_store t2 c3 c4 → (∀ j, j < t' → c1 j = b1 j) → (∀ j, j < 8 * t' → c2 j = b2 j) → cv_at t2 v →
        wX_join_103 post (wX_join_8 post (nI x) (nI y) (nI z) side (k + 1)) (nI x) (nI y) (nI z) side (nI i) v dm2 (nI t2) (nI n) br cl2 c1 c2 c3 c4 b5 a6 a7 a8 a9 a10 a11 a12 c13 := by
      intro t2 dm2 cl2 c1 c2 c3 c4 c13 v k1 k2 k3 k4 k5 k6
      refine ⟨cv_in (by omega), nm_r (e' := upd b5 (8 * n + i) v) (by rw [cv_cl (by omega)]) (nm_r (nI_1 i) (ih (i + 1) t2 dm2 cl2 c1 c2 c3 c4 _ c13 (by omega) (by omega) k2 k3 ⟨fun j hj => ?_, fun j hj => ?_, fun j hj => ?_⟩ ?_))⟩
      · rw [k4 j (by omega), g4.1 j hj]
      · rw [k5 j (by omega), g4.2.1 j hj]
      · rw [pk_un (by omega), g4.2.2 j hj]
      · exact cv_upd (fun j hj hk => cv_at_le k1 (g5 j (by omega))) k6
    have vx := g5 (8 * x + i) (by omega)
    have vy := g5 (8 * y + i) (by omega)
    have vz := g5 (8 * z + i) (by omega)
    refine pk_le 8 i (fun z => absurd z (by omega)) (fun _ => ⟨cv_in (by omega), nm_r (e' := b5 (8 * x + i)) (by rw [cv_cl (by omega)]) ⟨cv_in (by omega), nm_r (e' := b5 (8 * y + i)) (by rw [cv_cl (by omega)]) ⟨cv_in (by omega), nm_r (e' := b5 (8 * z + i)) (by rw [cv_cl (by omega)]) ?_⟩⟩⟩)
    refine br_c (fun _ => put t' dm' cl' b1 b2 b3 b4 b13 _ (by omega) (by omega) g3 (fun _ _ => rfl) (fun _ _ => rfl) vz) (fun _ => br_c (fun _ => put t' dm' cl' b1 b2 b3 b4 b13 _ (by omega) (by omega) g3 (fun _ _ => rfl) (fun _ _ => rfl) vy) (fun _ => br_c (fun _ => put t' dm' cl' b1 b2 b3 b4 b13 _ (by omega) (by omega) g3 (fun _ _ => rfl) (fun _ _ => rfl) vy) (fun _ => ?_)))
    exact cv_jc (by omega) vx vy vz g3 (fun q t2 dm2 cl2 c1 c2 c3 c4 c13 k0 k1 k2 k3 k4 k5 => put t2 dm2 cl2 c1 c2 c3 c4 c13 _ k1 (by omega) k3 k4 k5 (cv_nI k0))
theorem cv_jn {post : St1 → Prop} {x y z n t : Nat} {side : Int32} {dm br cl : Int32} {a1 a2 a3 a4 a5 a6 a7 a8 a9 a10 a11 a12 a13 : Nat → Int32} (hn : n < 20) (hx : x < n) (hy : y < n) (hz : z < n) (ht : t ≤ 153)
    (h5 : ∀ j, j < 8 * n → cv_at t (a5 j)) (hs : cv_store t a3 a4)
    (H : ∀ (t' : Nat) (dm' cl' : Int32) (b1 b2 b3 b4 b5 b13 : Nat → Int32), t ≤ t' → t' ≤ t + 8 → cv_store t' b3 b4 → cv_fr n t a1 a2 a5 b1 b2 b5 → (∀ j, j < 8 * (n + 1) → cv_at t' (b5 j)) → post (dm', nI t', nI n, br, cl', b1, b2, b3, b4, b5, a6, a7, a8, a9, a10, a11, a12, b13)) :
    wpX_join post (dm, nI t, nI n, br, cl, a1, a2, a3, a4, a5, a6, a7, a8, a9, a10, a11, a12, a13) (nI x) (nI y) (nI z) side :=
  ⟨9, cv_jn_l hn hx hy hz ht h5 H 8 0 t dm 0 a1 a2 a3 a4 a5 a13 (by omega) (by omega) (by omega) hs cv_fr_0 (fun j hj => h5 j (by omega))⟩
/-! ===== enter ===== -/
theorem cv_en {post : St1 → Prop} {n b p : Nat} {y : Int32} {dm st cl : Int32} {a1 a2 a3 a4 a5 a6 a7 a8 a9 a10 a11 a12 a13 : Nat → Int32} (hn : n < 20) (hb : b < 4) (hp : p < n) (hy : cv_opt n y)
    (H : ∀ b8 : Nat → Int32, (∀ j, j < n → b8 j = a8 j) → cv_bt (b8 n) n = true → post (dm, st, nI (n + 1), nI b, cl, a1, a2, a3, a4, a5, upd a6 n (nI p), upd a7 n y, b8, upd a9 b (nI n), a10, a11, a12, a13)) :
    wpX_enter post (dm, st, nI n, nI b, cl, a1, a2, a3, a4, a5, a6, a7, a8, a9, a10, a11, a12, a13) (nI p) y := by
  have tail : ∀ b8 : Nat → Int32, (∀ j, j < n → b8 j = a8 j) → cv_bt (b8 n) n = true → wX_enter_72 post dm st (nI n) (nI b) cl a1 a2 a3 a4 a5 (upd a6 n (nI p)) (upd a7 n y) b8 a9 a10 a11 a12 a13 :=
    fun b8 h1 h2 => ⟨vp_in_nI hb (by omega), nm_r (e' := upd a9 b (nI n)) (by rw [nI_clamp (by omega)]) (nm_r (nI_1 n) (H b8 h1 h2))⟩
  have vn : vp_in (nI n) 20 := vp_in_nI hn (by omega)
  have b1 : cv_bt (a8 p ||| ((1 : Int32) <<< (nI n &&& 31))) n = true := by
    rw [cv_or, cv_one n (by omega), Bool.or_true]
  refine ⟨vn, nm_r (e' := upd a6 n (nI p)) (by rw [nI_clamp (by omega)]) ⟨vn, nm_r (e' := upd a7 n y) (by rw [nI_clamp (by omega)]) ⟨vp_in_nI (by omega) (by omega), vn, nm_r (e' := upd a8 n (a8 p ||| ((1 : Int32) <<< (nI n &&& 31)))) (by rw [nI_clamp (by omega), nI_clamp (by omega)]) ?_⟩⟩⟩
  refine br_c (fun _ => tail _ (cv_un (by omega)) (by rw [pk_us]; exact b1)) (fun g => ?_)
  rcases hy with hy | ⟨q, hq, e⟩
  · exact absurd hy g
  · refine ⟨vn, by rw [e]; exact vp_in_nI (by omega) (by omega), vn, nm_e (tail _ (fun j hj => ?_) ?_)⟩
    · rw [nI_clamp (by omega), pk_un (by omega), pk_un (by omega)]
    · rw [nI_clamp (by omega), pk_us, pk_us, cv_or, b1, Bool.true_or]
/-! ===== settleWork ===== -/
theorem cv_sw_i {post : St1 → Prop} {J : Int32 → Int32 → Int32 → Int32 → Int32 → Int32 → (Nat → Int32) → (Nat → Int32) → (Nat → Int32) → (Nat → Int32) → (Nat → Int32) → (Nat → Int32) → (Nat → Int32) → (Nat → Int32) → (Nat → Int32) → (Nat → Int32) → (Nat → Int32) → (Nat → Int32) → (Nat → Int32) → Prop} {c t : Nat} {dm ct br cl : Int32} {a1 a2 a3 a4 a5 a6 a7 a8 a9 a10 a11 a12 : Nat → Int32} (ht : t < 168) (hc : c < 8) (hs : cv_store t a3 a4)
    (H : ∀ (q t' : Nat) (b1 b2 b3 b4 b13 : Nat → Int32), q < t' → t ≤ t' → t' ≤ t + 1 → cv_store t' b3 b4 → (∀ j, j < t → b1 j = a1 j) → (∀ j, j < 8 * t → b2 j = a2 j) → J (nI (c + 1)) dm (nI t') ct br cl b1 b2 b3 b4 a5 a6 a7 a8 a9 a10 a11 (upd a12 c (nI q)) b13) :
    ∀ (k i : Nat) (b13 : Nat → Int32), i + k = 8 → wX_settleWork_30 post J (nI c) dm (nI t) ct br cl (k + 1) (nI i) a1 a2 a3 a4 a5 a6 a7 a8 a9 a10 a11 a12 b13 := by
  intro k
  induction k with
  | zero =>
    intro i b13 hi
    exact pk_le 8 i (fun _ => cv_intern_2 ht hs (fun q t' b1 b2 b3 b4 h1 h2 h3 h4 h5 h6 => ⟨vp_in_nI hc (by omega), nm_r (e' := upd a12 c (nI q)) (by rw [nI_clamp (by omega)]) (nm_r (nI_1 c) (H q t' b1 b2 b3 b4 b13 h1 h2 h3 h4 h5 h6))⟩)) (fun z => absurd z (by omega))
  | succ k ih =>
    intro i b13 hi
    exact pk_le 8 i (fun z => absurd z (by omega)) (fun _ => ⟨cv_in (by omega), vp_in_nI (by omega) (by omega), nm_e (nm_r (nI_1 i) (ih (i + 1) _ (by omega)))⟩)
theorem cv_sw_l {post : St1 → Prop} {t : Nat} {ct br cl : Int32} {a1 a2 a5 a6 a7 a8 a9 a10 a11 : Nat → Int32} (ht : t ≤ 153)
    (H : ∀ (t' : Nat) (dm' : Int32) (b1 b2 b3 b4 b12 b13 : Nat → Int32), t ≤ t' → t' ≤ t + 8 → cv_store t' b3 b4 → (∀ j, j < t → b1 j = a1 j) → (∀ j, j < 8 * t → b2 j = a2 j) → (∀ j, j < 8 → cv_at t' (b12 j)) → post (dm', nI t', ct, br, cl, b1, b2, b3, b4, a5, a6, a7, a8, a9, a10, a11, b12, b13)) :
    ∀ (k i t' : Nat) (dm' : Int32) (b1 b2 b3 b4 b12 b13 : Nat → Int32), i + k = 8 → t ≤ t' → t' ≤ t + i → cv_store t' b3 b4 → (∀ j, j < t → b1 j = a1 j) → (∀ j, j < 8 * t → b2 j = a2 j) → (∀ j, j < i → cv_at t' (b12 j)) → (∀ j, j < 8 → cv_opt t' (b12 j)) →
    wX_settleWork_2 post (k + 1) (nI i) dm' (nI t') ct br cl b1 b2 b3 b4 a5 a6 a7 a8 a9 a10 a11 b12 b13 := by
  intro k
  induction k with
  | zero =>
    intro i t' dm' b1 b2 b3 b4 b12 b13 hi g1 g2 g3 g4 g5 g6 g7
    exact pk_le 8 i (fun _ => H t' dm' b1 b2 b3 b4 b12 b13 g1 (by omega) g3 g4 g5 (fun j hj => g6 j (by omega))) (fun z => absurd z (by omega))
  | succ k ih =>
    intro i t' dm' b1 b2 b3 b4 b12 b13 hi g1 g2 g3 g4 g5 g6 g7
    refine pk_le 8 i (fun z => absurd z (by omega)) (fun _ => ⟨vp_in_nI (by omega) (by omega), br_c (fun _ => ⟨vp_in_nI (by omega) (by omega), nm_e ⟨9, cv_sw_i (by omega) (by omega) g3 (fun q t2 c1 c2 c3 c4 c13 k0 k1 k2 k3 k4 k5 => ih (i + 1) t2 _ c1 c2 c3 c4 _ c13 (by omega) (by omega) (by omega) k3 (fun j hj => ?_) (fun j hj => ?_) ?_ ?_) 8 0 b13 (by omega)⟩⟩) (fun g => nm_r (nI_1 i) (ih (i + 1) t' dm' b1 b2 b3 b4 b12 b13 (by omega) g1 (by omega) g3 g4 g5 (fun j hj => ?_) g7))⟩)
    · rw [k4 j (by omega), g4 j hj]
    · rw [k5 j (by omega), g5 j hj]
    · exact cv_upd (fun j hj hk => cv_at_le k1 (g6 j (by omega))) (cv_nI k0)
    · exact cv_upd (fun j hj hk => cv_opt_le k1 (g7 j hj)) (cv_at_o (cv_nI k0))
    · by_cases e : j = i
      · rw [nI_clamp (by omega)] at g
        rw [e]
        exact (g7 i (by omega)).elim (fun z => absurd z g) id
      · exact g6 j (by omega)
theorem cv_sw {post : St1 → Prop} {t : Nat} {dm ct br cl : Int32} {a1 a2 a3 a4 a5 a6 a7 a8 a9 a10 a11 a12 a13 : Nat → Int32} (ht : t ≤ 153) (hs : cv_store t a3 a4) (h12 : ∀ j, j < 8 → cv_opt t (a12 j))
    (H : ∀ (t' : Nat) (dm' : Int32) (b1 b2 b3 b4 b12 b13 : Nat → Int32), t ≤ t' → t' ≤ t + 8 → cv_store t' b3 b4 → (∀ j, j < t → b1 j = a1 j) → (∀ j, j < 8 * t → b2 j = a2 j) → (∀ j, j < 8 → cv_at t' (b12 j)) → post (dm', nI t', ct, br, cl, b1, b2, b3, b4, a5, a6, a7, a8, a9, a10, a11, b12, b13)) :
    wpX_settleWork post (dm, nI t, ct, br, cl, a1, a2, a3, a4, a5, a6, a7, a8, a9, a10, a11, a12, a13) :=
  ⟨9, cv_sw_l ht H 8 0 t dm a1 a2 a3 a4 a12 a13 (by omega) (by omega) (by omega) hs (fun _ _ => rfl) (fun _ _ => rfl) (fun j hj => absurd hj (by omega)) h12⟩
/-! ===== commit's own loop: the row is copied ===== -/
theorem cv_cm_l {post : Int32 → St1 → Prop} {n b t : Nat} {dm st cl : Int32} {a1 a2 a3 a4 a5 a6 a7 a8 a9 a10 a11 a12 a13 : Nat → Int32} (hn : n < 20) (hb : b < 4) (h9 : ∀ j, j < 4 → cv_at n (a9 j)) (h5 : ∀ j, j < 8 * n → cv_at t (a5 j)) (h12 : ∀ j, j < 8 → cv_at t (a12 j))
    (H : ∀ (p : Nat) (b5 b8 : Nat → Int32), p < n → (∀ j, j < 8 * n → b5 j = a5 j) → (∀ c, c < 8 → b5 (8 * n + c) = a12 c) → (∀ j, j < n → b8 j = a8 j) → cv_bt (b8 n) n = true → post (nI n) (dm, st, nI (n + 1), nI b, cl, a1, a2, a3, a4, b5, upd a6 n (nI p), upd a7 n (-1), b8, upd a9 b (nI n), a10, a11, a12, a13)) :
    ∀ (k i : Nat) (b5 : Nat → Int32), i + k = 8 → (∀ j, j < 8 * n → b5 j = a5 j) → (∀ c, c < i → b5 (8 * n + c) = a12 c) → wX_commit_17 post dm st (nI n) (nI b) cl (k + 1) (nI i) a1 a2 a3 a4 b5 a6 a7 a8 a9 a10 a11 a12 a13 := by
  intro k
  induction k with
  | zero =>
    intro i b5 hi g1 g2
    obtain ⟨p, hp, e⟩ := h9 b hb
    refine pk_le 8 i (fun _ => ⟨vp_in_nI hb (by omega), ?_⟩) (fun z => absurd z (by omega))
    rw [nI_clamp (show b < 2 ^ 31 by omega), e]
    refine cv_en hn hb hp (Or.inl rfl) (fun b8 k1 k2 => ?_)
    dsimp only
    rw [nI_pred]
    exact H p b5 b8 hp g1 (fun c hc => g2 c (by omega)) k1 k2
  | succ k ih =>
    intro i b5 hi g1 g2
    refine pk_le 8 i (fun z => absurd z (by omega)) (fun _ => ⟨vp_in_nI (by omega) (by omega), cv_in (by omega), nm_r (e' := upd b5 (8 * n + i) (a12 i)) (by rw [cv_cl (by omega), nI_clamp (by omega)]) (nm_r (nI_1 i) (ih (i + 1) _ (by omega) (fun j hj => ?_) (fun c hc => ?_)))⟩)
    · rw [pk_un (by omega)]
      exact g1 j hj
    · by_cases e : c = i
      · rw [e, pk_us]
      · rw [pk_un (by omega)]
        exact g2 c (by omega)
end
section
/-! ===== what every turn leaves: the invariant, the frame, and (where C) a clean state ===== -/
def cv_Q (n t : Nat) (a1 a2 a5 : Nat → Int32) (C : Prop) (u : St1) : Prop :=
  ∃ (n' t' b : Nat) (dm cl : Int32) (b1 b2 b3 b4 b5 b6 b7 b8 b9 b10 b11 b12 b13 : Nat → Int32), u = (dm, nI t', nI n', nI b, cl, b1, b2, b3, b4, b5, b6, b7, b8, b9, b10, b11, b12, b13) ∧ n ≤ n' ∧ t ≤ t' ∧ cv_inv n' t' b b3 b4 b5 b6 b8 b9 b12 ∧ cv_fr n t a1 a2 a5 b1 b2 b5 ∧ (C → cv_clean u)
theorem cv_QI {n t n' t' b : Nat} {C : Prop} {a1' a2' a5' : Nat → Int32} {dm cl : Int32} {a1 a2 a3 a4 a5 a6 a7 a8 a9 a10 a11 a12 a13 : Nat → Int32} (hn : n ≤ n') (ht : t ≤ t') (hi : cv_inv n' t' b a3 a4 a5 a6 a8 a9 a12) (hf : cv_fr n t a1' a2' a5' a1 a2 a5) (hc : C → cv_clean (dm, nI t', nI n', nI b, cl, a1, a2, a3, a4, a5, a6, a7, a8, a9, a10, a11, a12, a13)) : cv_Q n t a1' a2' a5' C (dm, nI t', nI n', nI b, cl, a1, a2, a3, a4, a5, a6, a7, a8, a9, a10, a11, a12, a13) :=
  ⟨n', t', b, dm, cl, a1, a2, a3, a4, a5, a6, a7, a8, a9, a10, a11, a12, a13, rfl, hn, ht, hi, hf, hc⟩
/-- nothing but the work has changed -/
theorem cv_Q0 {n t b : Nat} {C : Prop} {dm cl : Int32} {a1 a2 a3 a4 a5 a6 a7 a8 a9 a10 a11 a12 a13 : Nat → Int32} (hi : cv_inv n t b a3 a4 a5 a6 a8 a9 a12) (hc : C → cv_clean (dm, nI t, nI n, nI b, cl, a1, a2, a3, a4, a5, a6, a7, a8, a9, a10, a11, a12, a13)) : cv_Q n t a1 a2 a5 C (dm, nI t, nI n, nI b, cl, a1, a2, a3, a4, a5, a6, a7, a8, a9, a10, a11, a12, a13) :=
  cv_QI (Nat.le_refl n) (Nat.le_refl t) hi cv_fr_0 hc
theorem cv_QT {n t : Nat} {C : Prop} {a1 a2 a5 : Nat → Int32} {u : St1} (h : cv_Q n t a1 a2 a5 True u) : cv_Q n t a1 a2 a5 C u := by
  obtain ⟨n', t', b', dm', cl', b1, b2, b3, b4, b5, b6, b7, b8, b9, b10, b11, b12, b13, e, k1, k2, k3, k4, k5⟩ := h
  exact ⟨n', t', b', dm', cl', b1, b2, b3, b4, b5, b6, b7, b8, b9, b10, b11, b12, b13, e, k1, k2, k3, k4, fun _ => k5 trivial⟩
theorem cv_inv12 {n t b : Nat} {a3 a4 a5 a6 a8 a9 a12 b12 : Nat → Int32} (h : cv_inv n t b a3 a4 a5 a6 a8 a9 a12) (k : ∀ j, j < 8 → cv_opt t (b12 j)) : cv_inv n t b a3 a4 a5 a6 a8 a9 b12 :=
  ⟨h.1, h.2.1, h.2.2.1, h.2.2.2.1, h.2.2.2.2.1, h.2.2.2.2.2.1, h.2.2.2.2.2.2.1, h.2.2.2.2.2.2.2.1, k, h.2.2.2.2.2.2.2.2.2⟩
theorem cv_inv9 {n t b b' : Nat} {a3 a4 a5 a6 a8 a9 a12 b9 : Nat → Int32} (h : cv_inv n t b a3 a4 a5 a6 a8 a9 a12) (hb : b' < 4) (k : ∀ j, j < 4 → cv_at n (b9 j)) : cv_inv n t b' a3 a4 a5 a6 a8 b9 a12 :=
  ⟨h.1, h.2.1, h.2.2.1, hb, h.2.2.2.2.1, h.2.2.2.2.2.1, h.2.2.2.2.2.2.1, k, h.2.2.2.2.2.2.2.2.1, h.2.2.2.2.2.2.2.2.2⟩
/-- a row entered behind n commits -/
theorem cv_invE {n t t' b p : Nat} {a3 a4 a5 a6 a8 a9 a12 b3 b4 b5 b8 b12 : Nat → Int32} (h : cv_inv n t b a3 a4 a5 a6 a8 a9 a12) (hn : n < 20) (hp : p < n) (h1 : t ≤ t') (h2 : t' ≤ t + 8) (hs : cv_store t' b3 b4) (k5 : ∀ j, j < 8 * (n + 1) → cv_at t' (b5 j)) (k8 : ∀ j, j < n → b8 j = a8 j) (k9 : cv_bt (b8 n) n = true) (k12 : ∀ j, j < 8 → cv_opt t' (b12 j)) :
    cv_inv (n + 1) t' b b3 b4 b5 (upd a6 n (nI p)) b8 (upd a9 b (nI n)) b12 := by
  obtain ⟨i1, i2, i3, i4, i5, i6, i7, i8, i9, i10⟩ := h
  refine ⟨by omega, by omega, by omega, i4, hs, k5, ?_, ?_, k12, fun j hj => ?_⟩
  · exact cv_upd (fun j hj hk => cv_opt_le (by omega) (i7 j (by omega))) (cv_at_o (cv_nI (by omega)))
  · exact cv_upd (fun j hj hk => cv_at_le (by omega) (i8 j hj)) (cv_nI (by omega))
  · by_cases e : j = n
    · rw [e]
      exact k9
    · rw [k8 j (by omega)]
      exact i10 j (by omega)
/-! ===== put, delete, spread ===== -/
theorem cv_put {post : Int32 → St1 → Prop} {n t b : Nat} {p0 p1 : Int32} {dm cl : Int32} {a1 a2 a3 a4 a5 a6 a7 a8 a9 a10 a11 a12 a13 : Nat → Int32} (hi : cv_inv n t b a3 a4 a5 a6 a8 a9 a12)
    (H : ∀ (r : Int32) (b10 b11 b12 : Nat → Int32), (∀ j, j < 8 → cv_opt t (b12 j)) → post r (dm, nI t, nI n, nI b, cl, a1, a2, a3, a4, a5, a6, a7, a8, a9, b10, b11, b12, a13)) : wpX_put post (dm, nI t, nI n, nI b, cl, a1, a2, a3, a4, a5, a6, a7, a8, a9, a10, a11, a12, a13) p0 p1 := by
  have h12 := hi.2.2.2.2.2.2.2.2.1
  unfold wpX_put
  dsimp only
  refine cv_isKey (br_t rfl (H _ _ _ _ h12)) (fun j hj e => br_f cv_10 ?_)
  have v8 : vp_in (nI (j / 8)) 8 := vp_in_nI (by omega) (by omega)
  have tail : ∀ x z : Int32, wX_put_38 post (nI j) p1 (nI (j / 8)) x z dm (nI t) (nI n) (nI b) cl a1 a2 a3 a4 a5 a6 a7 a8 a9 a10 a11 a12 a13 := by
    intro x z
    refine ⟨v8, v8, nm_e ⟨vp_in_nI hj (by omega), nm_e ⟨v8, nm_e (H _ _ _ _ ?_)⟩⟩⟩
    exact cv_upd (fun j hj _ => h12 j hj) (Or.inl rfl)
  rw [e]
  exact nm_r (cv_kc hj) (nm_e ⟨v8, br_c (fun _ => tail _ _) (fun _ => tail _ _)⟩)
theorem cv_del {post : Int32 → St1 → Prop} {n t b : Nat} {p0 : Int32} {dm cl : Int32} {a1 a2 a3 a4 a5 a6 a7 a8 a9 a10 a11 a12 a13 : Nat → Int32} (hi : cv_inv n t b a3 a4 a5 a6 a8 a9 a12)
    (H : ∀ (r : Int32) (b10 b11 b12 : Nat → Int32), (∀ j, j < 8 → cv_opt t (b12 j)) → post r (dm, nI t, nI n, nI b, cl, a1, a2, a3, a4, a5, a6, a7, a8, a9, b10, b11, b12, a13)) : wpX_delete post (dm, nI t, nI n, nI b, cl, a1, a2, a3, a4, a5, a6, a7, a8, a9, a10, a11, a12, a13) p0 := by
  have h12 := hi.2.2.2.2.2.2.2.2.1
  unfold wpX_delete
  dsimp only
  refine cv_isKey (br_t rfl (H _ _ _ _ h12)) (fun j hj e => br_f cv_10 ?_)
  have v8 : vp_in (nI (j / 8)) 8 := vp_in_nI (by omega) (by omega)
  rw [e]
  refine nm_r (cv_kc hj) (nm_e ⟨v8, br_c (fun _ => H _ _ _ _ h12) (fun _ => ⟨v8, v8, nm_e ⟨vp_in_nI hj (by omega), nm_e ⟨v8, nm_e (H _ _ _ _ ?_)⟩⟩⟩)⟩)
  exact cv_upd (fun j hj _ => h12 j hj) (Or.inl rfl)
theorem cv_sp_l {post : Int32 → St1 → Prop} {n t b s m : Nat} {v : Int32} {dm cl : Int32} {a1 a2 a3 a4 a5 a6 a7 a8 a9 a12 a13 : Nat → Int32} (hi : cv_inv n t b a3 a4 a5 a6 a8 a9 a12) (hs : 1 ≤ s) (hs2 : s ≤ 16) (hm : m ≤ 64)
    (H : ∀ (r : Int32) (b10 b11 b12 : Nat → Int32), (∀ j, j < 8 → cv_opt t (b12 j)) → post r (dm, nI t, nI n, nI b, cl, a1, a2, a3, a4, a5, a6, a7, a8, a9, b10, b11, b12, a13)) :
    ∀ (k i x : Nat) (b10 b11 b12 : Nat → Int32), i + k = m → x ≤ 64 * (i + 1) → (∀ j, j < 8 → cv_opt t (b12 j)) → wX_spread_49 post v (nI s) (nI m) (k + 1) (nI i) (nI x) dm (nI t) (nI n) (nI b) cl a1 a2 a3 a4 a5 a6 a7 a8 a9 b10 b11 b12 a13 := by
  intro k
  induction k with
  | zero =>
    intro i x b10 b11 b12 hk hx h12
    exact pk_le m i (fun _ => H _ _ _ _ h12) (fun z => absurd z (by omega))
  | succ k ih =>
    intro i x b10 b11 b12 hk hx h12
    exact pk_le m i (fun z => absurd z (by omega)) (fun _ => pk_le 64 x (fun _ => H _ _ _ _ h12) (fun _ => cv_put (cv_inv12 hi h12) (fun r c10 c11 c12 k12 => nm_r (nI_add x s) (nm_r (nI_1 i) (ih (i + 1) (x + s) c10 c11 c12 (by omega) (by omega) k12)))))
theorem cv_sp {post : Int32 → St1 → Prop} {n t b : Nat} {p0 p1 p2 : Int32} {dm cl : Int32} {a1 a2 a3 a4 a5 a6 a7 a8 a9 a10 a11 a12 a13 : Nat → Int32} (hi : cv_inv n t b a3 a4 a5 a6 a8 a9 a12)
    (H : ∀ (r : Int32) (b10 b11 b12 : Nat → Int32), (∀ j, j < 8 → cv_opt t (b12 j)) → post r (dm, nI t, nI n, nI b, cl, a1, a2, a3, a4, a5, a6, a7, a8, a9, b10, b11, b12, a13)) : wpX_spread post (dm, nI t, nI n, nI b, cl, a1, a2, a3, a4, a5, a6, a7, a8, a9, a10, a11, a12, a13) p0 p1 p2 := by
  have h12 := hi.2.2.2.2.2.2.2.2.1
  unfold wpX_spread
  dsimp only
  refine cv_isKey (br_t rfl (H _ _ _ _ h12)) (fun j hj e => br_f cv_10 (nm_e ?_))
  obtain ⟨m, hm, em⟩ := pk_andE p1 (m := 63) 6 (by decide)
  refine nm_r (e' := nI (m + 1)) (by rw [em, nI_1]) (br_c (fun _ => H _ _ _ _ h12) (fun _ => br_c (fun _ => H _ _ _ _ h12) (fun g1 => br_c (fun g2 => ?_) (fun _ => H _ _ _ _ h12))))
  have g0 : ¬ p1 >>> ((6 : Int32) &&& 31) < 0 := by
    intro z
    refine g1 ?_
    rw [Int32.lt_iff_toInt_lt] at z ⊢
    have e0 : (0 : Int32).toInt = 0 := by decide
    have e1 : (1 : Int32).toInt = 1 := by decide
    omega
  obtain ⟨s, hs, es⟩ := nI_of2 (M := 16) (n := 16) (by decide) g0 g2
  rw [es] at g1 ⊢
  have hs1 : 1 ≤ s := by
    rcases Nat.eq_zero_or_pos s with z | z
    · exact absurd (by rw [z]; decide) g1
    · exact z
  rw [e]
  exact ⟨_, cv_sp_l hi hs1 hs (by omega) H (m + 1) 0 j a10 a11 a12 (by omega) (by omega) h12⟩
/-! ===== commit, reset, checkout, change, branch, merge, pick ===== -/
theorem cv_commit {post : Int32 → St1 → Prop} {n t b : Nat} {dm cl : Int32} {a1 a2 a3 a4 a5 a6 a7 a8 a9 a10 a11 a12 a13 : Nat → Int32} (hi : cv_inv n t b a3 a4 a5 a6 a8 a9 a12)
    (H : ∀ (r : Int32) (u : St1), cv_Q n t a1 a2 a5 (¬ r < 0) u → post r u) : wpX_commit post (dm, nI t, nI n, nI b, cl, a1, a2, a3, a4, a5, a6, a7, a8, a9, a10, a11, a12, a13) := by
  have hi' := hi
  obtain ⟨i1, i2, i3, i4, i5, i6, i7, i8, i9, i10⟩ := hi
  refine pk_eq n 20 (fun _ => H _ _ (cv_Q0 hi' (fun z => absurd (by decide) z))) (fun hn => ?_)
  refine cv_sw (by omega) i5 i9 (fun t' dm' b1 b2 b3 b4 b12 b13 k1 k2 k3 k4 k5 k6 => ⟨9, ?_⟩)
  refine cv_cm_l (t := t') (by omega) i4 i8 (fun j hj => cv_at_le k1 (i6 j hj)) k6 (fun p b5 b8 m1 m2 m3 m4 m5 => H _ _ ?_) 8 0 a5 (by omega) (fun _ _ => rfl) (fun c hc => absurd hc (by omega))
  refine cv_QI (by omega) k1 (cv_invE hi' (by omega) m1 k1 k2 k3 (fun j hj => ?_) m4 m5 (fun j hj => cv_at_o (k6 j hj))) ⟨k4, k5, m2⟩ (fun _ => cv_cleanI i4 (h := n) (by omega) pk_us (fun c hc => (m3 c hc).symm))
  by_cases e : j < 8 * n
  · rw [m2 j e]
    exact cv_at_le k1 (i6 j e)
  · have e2 : j = 8 * n + (j - 8 * n) := by omega
    rw [e2, m3 (j - 8 * n) (by omega)]
    exact k6 _ (by omega)
theorem cv_check {post : Int32 → St1 → Prop} {n t b : Nat} {p0 : Int32} {dm cl : Int32} {a1 a2 a3 a4 a5 a6 a7 a8 a9 a10 a11 a12 a13 : Nat → Int32} (hi : cv_inv n t b a3 a4 a5 a6 a8 a9 a12)
    (H : ∀ (r : Int32) (u : St1), cv_Q n t a1 a2 a5 False u → post r u) : wpX_checkout post (dm, nI t, nI n, nI b, cl, a1, a2, a3, a4, a5, a6, a7, a8, a9, a10, a11, a12, a13) p0 := by
  have hi' := hi
  obtain ⟨i1, i2, i3, i4, i5, i6, i7, i8, i9, i10⟩ := hi
  rcases pk_ix p0 (n := n) (by omega) with h | h | ⟨x, hx, e⟩
  · unfold wpX_checkout
    dsimp only
    exact br_t h (br_t rfl (H _ _ (cv_Q0 hi' False.elim)))
  · unfold wpX_checkout
    dsimp only
    exact br_c (fun _ => br_t rfl (H _ _ (cv_Q0 hi' False.elim))) (fun _ => br_t h (br_t rfl (H _ _ (cv_Q0 hi' False.elim))))
  · rw [e]
    exact cv_co i2 hx (by omega) i6 (fun r b10 b11 b12 k => H _ _ (cv_Q0 (cv_inv12 hi' (fun j hj => by rw [k j hj]; exact cv_at_o (i6 _ (by omega)))) False.elim))
/-- a checkout of the current head leaves a clean state -/
theorem cv_coH {post : Int32 → St1 → Prop} {n t n' t' b x : Nat} {a1' a2' a5' : Nat → Int32} {dm cl : Int32} {a1 a2 a3 a4 a5 a6 a7 a8 a9 a10 a11 a12 a13 : Nat → Int32} (hi : cv_inv n' t' b a3 a4 a5 a6 a8 a9 a12) (hn : n ≤ n') (ht : t ≤ t') (hf : cv_fr n t a1' a2' a5' a1 a2 a5) (hx : a9 b = nI x) (hxn : x < n')
    (H : ∀ (r : Int32) (b10 b11 b12 : Nat → Int32), cv_Q n t a1' a2' a5' True (dm, nI t', nI n', nI b, cl, a1, a2, a3, a4, a5, a6, a7, a8, a9, b10, b11, b12, a13) → post r (dm, nI t', nI n', nI b, cl, a1, a2, a3, a4, a5, a6, a7, a8, a9, b10, b11, b12, a13)) : wpX_checkout post (dm, nI t', nI n', nI b, cl, a1, a2, a3, a4, a5, a6, a7, a8, a9, a10, a11, a12, a13) (nI x) := by
  have hi' := hi
  obtain ⟨i1, i2, i3, i4, i5, i6, i7, i8, i9, i10⟩ := hi
  exact cv_co i2 hxn (by omega) i6 (fun r b10 b11 b12 k => H r b10 b11 b12 (cv_QI hn ht (cv_inv12 hi' (fun j hj => by rw [k j hj]; exact cv_at_o (i6 _ (by omega)))) hf (fun _ => cv_cleanI i4 (h := x) (by omega) hx k)))
theorem cv_reset {post : Int32 → St1 → Prop} {n t b : Nat} {dm cl : Int32} {a1 a2 a3 a4 a5 a6 a7 a8 a9 a10 a11 a12 a13 : Nat → Int32} (hi : cv_inv n t b a3 a4 a5 a6 a8 a9 a12)
    (H : ∀ (r : Int32) (u : St1), cv_Q n t a1 a2 a5 True u → post r u) : wpX_reset post (dm, nI t, nI n, nI b, cl, a1, a2, a3, a4, a5, a6, a7, a8, a9, a10, a11, a12, a13) := by
  have h4 := hi.2.2.2.1
  obtain ⟨x, hx, e⟩ := hi.2.2.2.2.2.2.2.1 b h4
  refine ⟨vp_in_nI h4 (by omega), ?_⟩
  rw [nI_clamp (show b < 2 ^ 31 by omega), e]
  exact cv_coH hi (Nat.le_refl n) (Nat.le_refl t) cv_fr_0 e hx (fun r b10 b11 b12 hq => H _ _ hq)
theorem cv_change {post : Int32 → St1 → Prop} {n t b : Nat} {p0 : Int32} {dm cl : Int32} {a1 a2 a3 a4 a5 a6 a7 a8 a9 a10 a11 a12 a13 : Nat → Int32} (hi : cv_inv n t b a3 a4 a5 a6 a8 a9 a12)
    (H : ∀ (r : Int32) (u : St1), cv_Q n t a1 a2 a5 (¬ r < 0) u → post r u) : wpX_change post (dm, nI t, nI n, nI b, cl, a1, a2, a3, a4, a5, a6, a7, a8, a9, a10, a11, a12, a13) p0 := by
  have hi' := hi
  obtain ⟨i1, i2, i3, i4, i5, i6, i7, i8, i9, i10⟩ := hi
  unfold wpX_change
  dsimp only
  refine cv_isBranch (br_t rfl (H _ _ (cv_Q0 hi' (fun z => absurd (by decide) z)))) (fun j hj e => br_f cv_10 ?_)
  obtain ⟨r, hr⟩ := cv_ic (n := n) (t := t) (b := b) (dm := dm) (st := nI t) (ct := nI n) (cl := cl) (a1 := a1) (a2 := a2) (a3 := a3) (a4 := a4) (a5 := a5) (a6 := a6) (a7 := a7) (a8 := a8) (a9 := a9) (a10 := a10) (a11 := a11) (a12 := a12) (a13 := a13) i2 (by omega) i4 i8 i6
  refine hr _ (br_c (fun _ => H _ _ (cv_Q0 hi' (fun z => absurd (by decide) z))) (fun _ => ?_))
  obtain ⟨x, hx, ex⟩ := i8 j hj
  rw [e]
  refine ⟨vp_in_nI hj (by omega), ?_⟩
  rw [nI_clamp (show j < 2 ^ 31 by omega), ex]
  exact cv_coH (cv_inv9 hi' hj i8) (Nat.le_refl n) (Nat.le_refl t) cv_fr_0 ex hx (fun r b10 b11 b12 hq => ⟨vp_in_nI hj (by omega), H _ _ (cv_QT hq)⟩)
theorem cv_branch {post : Int32 → St1 → Prop} {n t b : Nat} {p0 : Int32} {dm cl : Int32} {a1 a2 a3 a4 a5 a6 a7 a8 a9 a10 a11 a12 a13 : Nat → Int32} (hi : cv_inv n t b a3 a4 a5 a6 a8 a9 a12)
    (H : ∀ (r : Int32) (u : St1), cv_Q n t a1 a2 a5 False u → post r u) : wpX_branch post (dm, nI t, nI n, nI b, cl, a1, a2, a3, a4, a5, a6, a7, a8, a9, a10, a11, a12, a13) p0 := by
  have hi' := hi
  obtain ⟨i1, i2, i3, i4, i5, i6, i7, i8, i9, i10⟩ := hi
  unfold wpX_branch
  dsimp only
  refine cv_isBranch (br_t rfl (H _ _ (cv_Q0 hi' False.elim))) (fun j hj e => br_f cv_10 (br_c (fun _ => H _ _ (cv_Q0 hi' False.elim)) (fun _ => ?_)))
  rw [e]
  refine ⟨vp_in_nI hj (by omega), nm_e ⟨vp_in_nI i4 (by omega), vp_in_nI hj (by omega), nm_e (H _ _ (cv_Q0 (cv_inv9 hi' i4 ?_) False.elim))⟩⟩
  rw [nI_clamp (by omega), nI_clamp (by omega)]
  exact cv_upd (fun j hj _ => i8 j hj) (i8 b i4)
theorem cv_merge {post : Int32 → St1 → Prop} {n t b : Nat} {p0 p1 : Int32} {dm cl : Int32} {a1 a2 a3 a4 a5 a6 a7 a8 a9 a10 a11 a12 a13 : Nat → Int32} (hi : cv_inv n t b a3 a4 a5 a6 a8 a9 a12)
    (H : ∀ (r : Int32) (u : St1), cv_Q n t a1 a2 a5 (¬ r < 0) u → post r u) : wpX_merge post (dm, nI t, nI n, nI b, cl, a1, a2, a3, a4, a5, a6, a7, a8, a9, a10, a11, a12, a13) p0 p1 := by
  have hi' := hi
  obtain ⟨i1, i2, i3, i4, i5, i6, i7, i8, i9, i10⟩ := hi
  have ng : ∀ r : Int32, r < 0 → post r (dm, nI t, nI n, nI b, cl, a1, a2, a3, a4, a5, a6, a7, a8, a9, a10, a11, a12, a13) := fun r hr => H _ _ (cv_Q0 hi' (fun z => absurd hr z))
  unfold wpX_merge
  dsimp only
  refine cv_isBranch (br_t rfl (ng _ (by decide))) (fun j hj e => br_f cv_10 (br_c (fun _ => ng _ (by decide)) (fun _ => br_c (fun _ => ?_) (fun _ => ng _ (by decide)))))
  obtain ⟨r, hr⟩ := cv_ic (n := n) (t := t) (b := b) (dm := dm) (st := nI t) (ct := nI n) (cl := cl) (a1 := a1) (a2 := a2) (a3 := a3) (a4 := a4) (a5 := a5) (a6 := a6) (a7 := a7) (a8 := a8) (a9 := a9) (a10 := a10) (a11 := a11) (a12 := a12) (a13 := a13) i2 (by omega) i4 i8 i6
  refine hr _ (br_c (fun _ => ng _ (by decide)) (fun hr0 => ?_))
  obtain ⟨x, hx, ex⟩ := i8 b i4
  obtain ⟨y, hy, ey⟩ := i8 j hj
  rw [e]
  refine ⟨vp_in_nI i4 (by omega), nm_r (e' := nI x) (by rw [nI_clamp (by omega), ex]) ⟨vp_in_nI hj (by omega), nm_r (e' := nI y) (by rw [nI_clamp (by omega), ey]) ?_⟩⟩
  obtain ⟨o, ho1, ho2, hb, _⟩ := cv_bs (x := x) (y := y) (dm := dm) (st := nI t) (ct := nI n) (br := nI b) (cl := cl) (a1 := a1) (a2 := a2) (a3 := a3) (a4 := a4) (a5 := a5) (a6 := a6) (a7 := a7) (a8 := a8) (a9 := a9) (a10 := a10) (a11 := a11) (a12 := a12) (a13 := a13) (by omega) (by omega)
  refine hb _ (br_c (fun _ => H _ _ (cv_Q0 hi' (fun _ => ⟨r, hr0, hr⟩))) (fun _ => br_c (fun _ => ⟨vp_in_nI i4 (by omega), nm_r (e' := upd a9 b (nI y)) (by rw [nI_clamp (by omega)]) ?_⟩) (fun _ => pk_eq n 20 (fun _ => ng _ (by decide)) (fun hn => ?_))))
  · exact cv_coH (cv_inv9 hi' i4 (cv_upd (fun j hj _ => i8 j hj) (cv_nI hy))) (Nat.le_refl n) (Nat.le_refl t) cv_fr_0 pk_us hy (fun r b10 b11 b12 hq => H _ _ (cv_QT hq))
  · have tail : wX_merge_129 post p1 (nI x) (nI y) (nI o) dm (nI t) (nI n) (nI b) cl a1 a2 a3 a4 a5 a6 a7 a8 a9 a10 a11 a12 a13 := by
      unfold wX_merge_129
      refine cv_jn (by omega) (by omega) hx hy (by omega) i6 i5 (fun t' dm' cl' b1 b2 b3 b4 b5 b13 k1 k2 k3 k4 k5 => ?_)
      refine cv_en (by omega) i4 hx (cv_at_o (cv_nI hy)) (fun b8 m1 m2 => ?_)
      dsimp only
      rw [nI_pred]
      exact cv_coH (n := n) (t := t) (cv_invE hi' (by omega) hx k1 k2 k3 k5 m1 m2 (fun j hj => cv_opt_le k1 (i9 j hj))) (by omega) k1 k4 pk_us (by omega) (fun r b10 b11 b12 hq => H _ _ (cv_QT hq))
    exact br_c (fun _ => cv_cc i2 (by omega) hx hy (by omega) i6 (fun r => br_c (fun _ => tail) (fun _ => ng _ (by decide)))) (fun _ => tail)
theorem cv_pick {post : Int32 → St1 → Prop} {n t b : Nat} {p0 p1 : Int32} {dm cl : Int32} {a1 a2 a3 a4 a5 a6 a7 a8 a9 a10 a11 a12 a13 : Nat → Int32} (hi : cv_inv n t b a3 a4 a5 a6 a8 a9 a12)
    (H : ∀ (r : Int32) (u : St1), cv_Q n t a1 a2 a5 (¬ r < 0) u → post r u) : wpX_pick post (dm, nI t, nI n, nI b, cl, a1, a2, a3, a4, a5, a6, a7, a8, a9, a10, a11, a12, a13) p0 p1 := by
  have hi' := hi
  obtain ⟨i1, i2, i3, i4, i5, i6, i7, i8, i9, i10⟩ := hi
  have ng : ∀ r : Int32, r < 0 → post r (dm, nI t, nI n, nI b, cl, a1, a2, a3, a4, a5, a6, a7, a8, a9, a10, a11, a12, a13) := fun r hr => H _ _ (cv_Q0 hi' (fun z => absurd hr z))
  unfold wpX_pick
  dsimp only
  refine cv_isCommit i2 (br_t rfl (ng _ (by decide))) (fun j hj e => br_f cv_10 (br_c (fun _ => ng _ (by decide)) (fun _ => br_c (fun _ => ?_) (fun _ => ng _ (by decide)))))
  obtain ⟨r, hr⟩ := cv_ic (n := n) (t := t) (b := b) (dm := dm) (st := nI t) (ct := nI n) (cl := cl) (a1 := a1) (a2 := a2) (a3 := a3) (a4 := a4) (a5 := a5) (a6 := a6) (a7 := a7) (a8 := a8) (a9 := a9) (a10 := a10) (a11 := a11) (a12 := a12) (a13 := a13) i2 (by omega) i4 i8 i6
  refine hr _ (br_c (fun _ => ng _ (by decide)) (fun hr0 => pk_eq n 20 (fun _ => ng _ (by decide)) (fun hn => ?_)))
  have vj : vp_in (nI j) 20 := vp_in_nI (by omega) (by omega)
  obtain ⟨x, hx, ex⟩ := i8 b i4
  rw [e]
  refine ⟨vj, br_c (fun _ => ng _ (by decide)) (fun g => ⟨vp_in_nI i4 (by omega), nm_r (e' := nI x) (by rw [nI_clamp (by omega), ex]) ?_⟩)⟩
  rw [nI_clamp (show j < 2 ^ 31 by omega)] at g ⊢
  rcases i7 j hj with eo | ⟨o, ho, eo⟩
  · exact absurd eo g
  · have tail : wX_pick_90 post (nI j) p1 (nI x) dm (nI t) (nI n) (nI b) cl a1 a2 a3 a4 a5 a6 a7 a8 a9 a10 a11 a12 a13 := by
      unfold wX_pick_90
      rw [nI_clamp (show j < 2 ^ 31 by omega), eo]
      refine ⟨vj, ?_⟩
      refine cv_jn (by omega) ho hx hj (by omega) i6 i5 (fun t' dm' cl' b1 b2 b3 b4 b5 b13 k1 k2 k3 k4 k5 => ?_)
      refine cv_en (by omega) i4 hx (Or.inl rfl) (fun b8 m1 m2 => ?_)
      dsimp only
      rw [nI_pred]
      exact cv_coH (n := n) (t := t) (cv_invE hi' (by omega) hx k1 k2 k3 k5 m1 m2 (fun j hj => cv_opt_le k1 (i9 j hj))) (by omega) k1 k4 pk_us (by omega) (fun r b10 b11 b12 hq => H _ _ (cv_QT hq))
    rw [eo]
    exact br_c (fun _ => ⟨vj, cv_cc i2 ho hx hj (by omega) i6 (fun r => br_c (fun _ => tail) (fun _ => ng _ (by decide)))⟩) (fun _ => tail)
/-! ===== a turn ===== -/
theorem cv_turn {post : Int32 → St1 → Prop} {n t b : Nat} {p1 p2 p3 : Int32} {dm cl : Int32} {a1 a2 a3 a4 a5 a6 a7 a8 a9 a10 a11 a12 a13 : Nat → Int32} (hi : cv_inv n t b a3 a4 a5 a6 a8 a9 a12)
    (H : ∀ (r : Int32) (u : St1), cv_Q n t a1 a2 a5 (r = 1) u → post r u) : wpL_turn post (dm, nI t, nI n, nI b, cl, a1, a2, a3, a4, a5, a6, a7, a8, a9, a10, a11, a12, a13) p1 p2 p3 := by
  have w0 : ∀ b10 b11 b12 : Nat → Int32, (∀ j, j < 8 → cv_opt t (b12 j)) → post 0 (dm, nI t, nI n, nI b, cl, a1, a2, a3, a4, a5, a6, a7, a8, a9, b10, b11, b12, a13) := fun b10 b11 b12 h => H _ _ (cv_Q0 (cv_inv12 hi h) (fun z => absurd z (by decide)))
  have q0 : ∀ (C : Prop) (u : St1), cv_Q n t a1 a2 a5 C u → cv_Q n t a1 a2 a5 ((0 : Int32) = 1) u := by
    intro C u h
    obtain ⟨n', t', b', dm', cl', b1, b2, b3, b4, b5, b6, b7, b8, b9, b10, b11, b12, b13, e, k1, k2, k3, k4, _⟩ := h
    exact ⟨n', t', b', dm', cl', b1, b2, b3, b4, b5, b6, b7, b8, b9, b10, b11, b12, b13, e, k1, k2, k3, k4, fun z => absurd z (by decide)⟩
  have q1 : ∀ (C : Prop) (u : St1), C → cv_Q n t a1 a2 a5 C u → cv_Q n t a1 a2 a5 ((1 : Int32) = 1) u := by
    intro C u c h
    obtain ⟨n', t', b', dm', cl', b1, b2, b3, b4, b5, b6, b7, b8, b9, b10, b11, b12, b13, e, k1, k2, k3, k4, k5⟩ := h
    exact ⟨n', t', b', dm', cl', b1, b2, b3, b4, b5, b6, b7, b8, b9, b10, b11, b12, b13, e, k1, k2, k3, k4, fun _ => k5 c⟩
  have g0 : ∀ (C : Prop) (u : St1), cv_Q n t a1 a2 a5 C u → post 0 u := fun C u h => H 0 u (q0 C u h)
  have gr : ∀ (r : Int32) (u : St1), cv_Q n t a1 a2 a5 (¬ r < 0) u → (r < 0 → post 0 u) ∧ (¬ r < 0 → post 1 u) := fun r u h => ⟨fun _ => g0 _ u h, fun z => H 1 u (q1 _ u z h)⟩
  have gt : ∀ (r : Int32) (u : St1), cv_Q n t a1 a2 a5 True u → (r < 0 → post 0 u) ∧ (¬ r < 0 → post 1 u) := fun r u h => ⟨fun _ => g0 _ u h, fun _ => H 1 u (q1 _ u trivial h)⟩
  have pt : ∀ z0 : Int32, wL_turn_27 post p3 z0 dm (nI t) (nI n) (nI b) cl a1 a2 a3 a4 a5 a6 a7 a8 a9 a10 a11 a12 a13 := by
    intro z0
    unfold wL_turn_27
    exact cv_put hi (fun r b10 b11 b12 h => w0 b10 b11 b12 h)
  have n3 : ¬ (3 : Int32) = 0 := by decide
  unfold wpL_turn
  dsimp only
  refine nm_e (br_c (fun _ => br_c (fun _ => ?_) (fun _ => br_c (fun _ => ?_) (fun _ => br_c (fun _ => br_c (fun _ => ?_) (fun _ => br_c (fun _ => ?_) (fun _ => br_c (fun _ => br_c (fun _ => ?_) (fun _ => br_c (fun _ => ⟨n3, ?_⟩) (fun _ => ⟨n3, ?_⟩))) (fun _ => ?_)))) (fun _ => ?_)))) (fun _ => br_c (fun _ => pt _) (fun _ => pt _)))
  · exact cv_del hi (fun r b10 b11 b12 h => w0 b10 b11 b12 h)
  · exact cv_sp hi (fun r b10 b11 b12 h => w0 b10 b11 b12 h)
  · refine cv_reset hi (fun r u h => ?_)
    obtain ⟨c1, c2, c3, c4, c5, c6, c7, c8, c9, c10, c11, c12, c13, c14, c15, c16, c17, c18⟩ := u
    exact gt r _ h
  · refine cv_check hi (fun r u h => ?_)
    obtain ⟨c1, c2, c3, c4, c5, c6, c7, c8, c9, c10, c11, c12, c13, c14, c15, c16, c17, c18⟩ := u
    exact g0 _ _ h
  · refine cv_branch hi (fun r u h => ?_)
    obtain ⟨c1, c2, c3, c4, c5, c6, c7, c8, c9, c10, c11, c12, c13, c14, c15, c16, c17, c18⟩ := u
    exact g0 _ _ h
  · refine cv_pick hi (fun r u h => ?_)
    obtain ⟨c1, c2, c3, c4, c5, c6, c7, c8, c9, c10, c11, c12, c13, c14, c15, c16, c17, c18⟩ := u
    exact gr r _ h
  · refine cv_merge hi (fun r u h => ?_)
    obtain ⟨c1, c2, c3, c4, c5, c6, c7, c8, c9, c10, c11, c12, c13, c14, c15, c16, c17, c18⟩ := u
    exact gr r _ h
  · refine cv_change hi (fun r u h => ?_)
    obtain ⟨c1, c2, c3, c4, c5, c6, c7, c8, c9, c10, c11, c12, c13, c14, c15, c16, c17, c18⟩ := u
    exact gr r _ h
  · refine cv_commit hi (fun r u h => ?_)
    obtain ⟨c1, c2, c3, c4, c5, c6, c7, c8, c9, c10, c11, c12, c13, c14, c15, c16, c17, c18⟩ := u
    exact gr r _ h
end
section
/-! ===== the constructor ===== -/
theorem cv_init_139 {post : St1 → Prop} {mc ms kc ks t q : Nat} {dm ct cl : Int32} {a1 a2 a3 a4 a6 a7 a8 a9 a10 a11 a13 : Nat → Int32} (hq : q < t) (ht : t ≤ 1) (hs : cv_store t a3 a4)
    (h9 : ∀ j, j < 4 → a9 j = nI 0)
    (H : ∀ b5 b6 b7 b8 b12 : Nat → Int32, cv_inv 1 t 0 a3 a4 b5 b6 b8 a9 b12 → post (dm, nI t, 1, nI 0, cl, a1, a2, a3, a4, b5, b6, b7, b8, a9, a10, a11, b12, a13)) :
    ∀ (k i : Nat) (b5 b12 : Nat → Int32), i + k = 8 → (∀ j, j < i → b5 j = nI q) → (∀ j, j < i → b12 j = nI q) → wX_init_139 post mc ms (nI q) kc ks dm (nI t) ct (nI 0) cl (k + 1) (nI i) a1 a2 a3 a4 b5 a6 a7 a8 a9 a10 a11 b12 a13 := by
  intro k
  induction k with
  | zero =>
    intro i b5 b12 hi g1 g2
    refine pk_le 8 i (fun _ => nm_e (nm_e (nm_e (H _ _ _ _ _ ?_)))) (fun z => absurd z (by omega))
    refine ⟨by omega, by omega, by omega, by omega, hs, fun j hj => ?_, ?_, fun j hj => ?_, fun j hj => ?_, fun j hj => ?_⟩
    · rw [g1 j (by omega)]
      exact cv_nI hq
    · exact cv_upd (fun j hj hk => absurd hj (by omega)) (Or.inl rfl)
    · rw [h9 j hj]
      exact cv_nI (by omega)
    · rw [g2 j (by omega)]
      exact cv_at_o (cv_nI hq)
    · have e : j = 0 := by omega
      rw [e, pk_us]
      decide
  | succ k ih =>
    intro i b5 b12 hi g1 g2
    have st : ∀ f : Nat → Int32, (∀ j, j < i → f j = nI q) → ∀ j, j < i + 1 → upd f (nI i).toNatClampNeg (nI q) j = nI q := by
      intro f hf j hj
      rw [nI_clamp (by omega)]
      by_cases e : j = i
      · rw [e, pk_us]
      · rw [pk_un e]
        exact hf j (by omega)
    exact pk_le 8 i (fun z => absurd z (by omega)) (fun _ => ⟨vp_in_nI (by omega) (by omega), nm_e ⟨vp_in_nI (by omega) (by omega), nm_e (nm_r (nI_1 i) (ih (i + 1) _ _ (by omega) (st b5 g1) (st b12 g2)))⟩⟩)
theorem cv_init_113 {post : St1 → Prop} {mc ms kc ks : Nat} {dm ct cl : Int32} {a1 a2 a3 a5 a6 a7 a8 a9 a10 a11 a12 a13 : Nat → Int32} (h9 : ∀ j, j < 4 → a9 j = nI 0)
    (H : ∀ (t : Nat) (b1 b2 b3 b4 b5 b6 b7 b8 b12 : Nat → Int32), cv_inv 1 t 0 b3 b4 b5 b6 b8 a9 b12 → post (dm, nI t, 1, nI 0, cl, b1, b2, b3, b4, b5, b6, b7, b8, a9, a10, a11, b12, a13)) :
    ∀ (k i : Nat) (b4 : Nat → Int32), i + k = 32 → (∀ j, j < i → b4 j = -1) → wX_init_113 post mc ms kc ks dm (nI 0) ct (nI 0) cl (k + 1) (nI i) a1 a2 a3 b4 a5 a6 a7 a8 a9 a10 a11 a12 a13 := by
  intro k
  induction k with
  | zero =>
    intro i b4 hi g
    refine pk_le 32 i (fun _ => ?_) (fun z => absurd z (by omega))
    exact cv_intern (t := 0) (by omega) ⟨fun j hj => Or.inl (g j (by omega)), fun j hj => absurd hj (by omega)⟩ (fun q t' b1 b2 b3 b4 k1 k2 k3 k4 _ _ => ⟨9, cv_init_139 k1 (by omega) k4 h9 (fun b5 b6 b7 b8 b12 h => H t' b1 b2 b3 b4 b5 b6 b7 b8 b12 h) 8 0 _ _ (by omega) (fun j hj => absurd hj (by omega)) (fun j hj => absurd hj (by omega))⟩)
  | succ k ih =>
    intro i b4 hi g
    refine pk_le 32 i (fun z => absurd z (by omega)) (fun _ => ⟨vp_in_nI (by omega) (by omega), nm_e (nm_r (nI_1 i) (ih (i + 1) _ (by omega) (fun j hj => ?_)))⟩)
    rw [nI_clamp (by omega)]
    by_cases e : j = i
    · rw [e, pk_us]
    · rw [pk_un e]
      exact g j (by omega)
theorem cv_init {post : St1 → Prop} (H : ∀ (t : Nat) (dm cl : Int32) (a1 a2 a3 a4 a5 a6 a7 a8 a9 a10 a11 a12 a13 : Nat → Int32), cv_inv 1 t 0 a3 a4 a5 a6 a8 a9 a12 → post (dm, nI t, 1, nI 0, cl, a1, a2, a3, a4, a5, a6, a7, a8, a9, a10, a11, a12, a13)) : wpX_init post 13 2024 (0, 0, 0, 0, 0) := by
  unfold wpX_init
  dsimp only
  refine ⟨by omega, by omega, by omega, by omega, by omega, by omega, by omega, by omega, by omega, by omega, by omega, by omega, by omega, by omega, by omega, by omega, by omega, by omega, by omega, by omega, by omega, by omega, by omega, by omega, by omega, by omega, 33, ?_⟩
  exact cv_init_113 (fun j _ => rfl) (fun t b1 b2 b3 b4 b5 b6 b7 b8 b12 h => H t _ _ b1 b2 b3 b4 b5 b6 b7 b8 _ _ _ b12 _ h) 32 0 _ (by omega) (fun j hj => absurd hj (by omega))
/-! ===== the law ===== -/
theorem cv_cell {post : Int32 → Prop} {L k : Nat} {xs : Nat → Int32} (hL : L ≤ 260) (hk : k ≤ 1000) (H : ∀ r, post r) : wpL_cell post L xs () (nI k) :=
  pk_le L k (fun _ => H 0) (fun z => ⟨vp_in_nI z (by omega), H _⟩)
theorem cv_rem (x s : Int32) {n : Nat} (h0 : 1 ≤ n) (hn : n ≤ 20) : ∃ j : Nat, j < n ∧ ((x >>> (s &&& 31)) &&& 31) - ((x >>> (s &&& 31)) &&& 31) / nI n * nI n = nI j := by
  obtain ⟨j, hj, e⟩ := pk_andE (x >>> (s &&& 31)) (m := 31) 5 (by decide)
  rw [e, pk_rem (by omega) (by omega) (by omega)]
  exact ⟨j % n, Nat.mod_lt _ (by omega), rfl⟩
theorem cv_law_l {xs : Nat → Int32} {L kc ks : Nat} (hL : L ≤ 260) : ∀ (f k n t b w : Nat) (m : Int32) (dm cl : Int32) (a1 a2 a3 a4 a5 a6 a7 a8 a9 a10 a11 a12 a13 : Nat → Int32), k ≤ L + 1 → L ≤ k + f → w < n → cv_inv n t b a3 a4 a5 a6 a8 a9 a12 → cv_mk n t w m a1 a2 a5 →
    wL_law_19 (fun r => r = 1) L xs kc ks (f + 1) (nI w) m (nI k) dm (nI t) (nI n) (nI b) cl a1 a2 a3 a4 a5 a6 a7 a8 a9 a10 a11 a12 a13 := by
  intro f
  induction f with
  | zero =>
    intro k n t b w m dm cl a1 a2 a3 a4 a5 a6 a7 a8 a9 a10 a11 a12 a13 h1 h2 hw hi hm
    exact pk_le L k (fun _ => hm _ n _ _ _ _ _ _ _ _ _ _ _ _ _ _ _ _ _ (Nat.le_refl n) hi.2.1 cv_fr_0 (br_t rfl rfl)) (fun z => absurd z (by omega))
  | succ f ih =>
    intro k n t b w m dm cl a1 a2 a3 a4 a5 a6 a7 a8 a9 a10 a11 a12 a13 h1 h2 hw hi hm
    refine pk_le L k (fun _ => hm _ n _ _ _ _ _ _ _ _ _ _ _ _ _ _ _ _ _ (Nat.le_refl n) hi.2.1 cv_fr_0 (br_t rfl rfl)) (fun hk => ?_)
    refine cv_cell hL (by omega) (fun c => ?_)
    rw [nI_1]
    refine cv_cell hL (by omega) (fun d => ?_)
    refine cv_turn hi (fun r u hq => ?_)
    obtain ⟨n', t', b', dm', cl', b1, b2, b3, b4, b5, b6, b7, b8, b9, b10, b11, b12, b13, e, k1, k2, hi', k4, k5⟩ := hq
    rw [e] at k5 ⊢
    have hm' := cv_mk_t k1 k2 hm k4
    have i1 := hi'.1
    have i2 := hi'.2.1
    have i3 := hi'.2.2.1
    have i6 := hi'.2.2.2.2.2.1
    have i10 := hi'.2.2.2.2.2.2.2.2.2
    have t133 : ∀ (w2 : Nat) (m2 : Int32), w2 < n' → cv_mk n' t' w2 m2 b1 b2 b5 → wL_law_133 (fun r => r = 1) L xs (wL_law_19 (fun r => r = 1) L xs kc ks (f + 1)) (nI w2) m2 (nI k) d (nI n') kc ks dm' (nI t') (nI n') (nI b') cl' b1 b2 b3 b4 b5 b6 b7 b8 b9 b10 b11 b12 b13 := by
      intro w2 m2 hw2 hm2
      obtain ⟨x, hx, ex⟩ := cv_rem d 10 i1 i2
      obtain ⟨y, hy, ey⟩ := cv_rem d 15 i1 i2
      have n0 : ¬ nI n' = 0 := nI_ne0 (by omega) (by omega)
      refine ⟨n0, n0, ?_⟩
      rw [ex, ey]
      exact cv_holds i2 (by omega) hx hy i6 i10 (br_f cv_10 (nm_r (e' := nI (k + 2)) (nI_add k 2) (ih (k + 2) n' t' b' w2 m2 _ _ _ _ _ _ _ _ _ _ _ _ _ _ _ (by omega) (by omega) hw2 hi' hm2)))
    have t73 : wL_law_73 (fun r => r = 1) L xs (wL_law_19 (fun r => r = 1) L xs kc ks (f + 1)) (nI w) m (nI k) c d kc ks dm' (nI t') (nI n') (nI b') cl' b1 b2 b3 b4 b5 b6 b7 b8 b9 b10 b11 b12 b13 := by
      unfold wL_law_73
      refine hm' _ n' _ _ _ _ _ _ _ _ _ _ _ _ _ _ _ _ _ (Nat.le_refl n') i2 cv_fr_0 (br_t rfl ?_)
      refine pk_lt n' 1 (fun z => absurd z (by omega)) (fun _ => pk_le n' 20 (fun _ => br_c (fun _ => ⟨nI_ne0 (by omega) (by omega), ?_⟩) (fun _ => t133 w m (by omega) hm')) (fun z => absurd z (by omega)))
      obtain ⟨x, hx, ex⟩ := cv_rem d 5 i1 i2
      obtain ⟨m2, hm2⟩ := cv_mark (n := n') (t := t') (w := x) (a1 := b1) (a2 := b2) (a5 := b5) i2 hx (by omega) i6
      exact nm_r ex (hm2 _ n' _ _ _ _ _ _ _ _ _ _ _ _ _ _ _ _ _ (Nat.le_refl n') i2 cv_fr_0 (t133 x m2 hx hm2))
    exact br_c (fun z => cv_cleanE (k5 z) (br_t rfl t73)) (fun _ => t73)
theorem i_vc (xs : Nat → Int32) (L : Nat) (hL : L ≤ 260) : wpL_law (fun r => r = 1) L xs := by
  refine ⟨13, 2024, by omega, by omega, cv_init (fun t dm cl a1 a2 a3 a4 a5 a6 a7 a8 a9 a10 a11 a12 a13 hi => ?_)⟩
  obtain ⟨m, hm⟩ := cv_mark (n := 1) (t := t) (w := 0) (a1 := a1) (a2 := a2) (a5 := a5) (by omega) (by omega) (by have := hi.2.2.1; omega) hi.2.2.2.2.2.1
  exact hm _ 1 _ _ _ _ _ _ _ _ _ _ _ _ _ _ _ _ _ (Nat.le_refl 1) (by omega) cv_fr_0 ⟨L + 1, cv_law_l hL L 0 1 t 0 0 m dm cl a1 a2 a3 a4 a5 a6 a7 a8 a9 a10 a11 a12 a13 (by omega) (by omega) (by omega) hi hm⟩
end
