section
/-! ===== bits of an Int32 (rows of laws/BITS.to-paste, renamed) ===== -/
def bf_bt (x : Int32) (i : Nat) : Bool := x.toBitVec.getLsbD i
theorem bf_bor (x y : Int32) (i : Nat) : bf_bt (x ||| y) i = (bf_bt x i || bf_bt y i) := by unfold bf_bt; rw [Int32.toBitVec_or, BitVec.getLsbD_or]
theorem bf_sl : ∀ n, n < 32 → ((nI n &&& 31).toBitVec.smod 32).toNat = n := by decide +kernel
theorem bf_bshl (n : Nat) (hn : n < 32) (x : Int32) {i : Nat} (hi : i < 32) : bf_bt (x <<< (nI n &&& 31)) i = (decide (n ≤ i) && bf_bt x (i - n)) := by
  unfold bf_bt
  rw [Int32.toBitVec_shiftLeft]
  show (x.toBitVec <<< ((nI n &&& 31).toBitVec.smod 32).toNat).getLsbD i = _
  rw [bf_sl n hn, BitVec.getLsbD_shiftLeft]
  rcases Nat.lt_or_ge i n with h | h
  · simp [h, Nat.not_le.mpr h]
  · simp [hi, h, Nat.not_lt.mpr h]
theorem bf_bshr (n : Nat) (hn : n < 32) (x : Int32) {i : Nat} (hi : i < 32) : bf_bt (x >>> (nI n &&& 31)) i = if n + i < 32 then bf_bt x (n + i) else bf_bt x 31 := by
  unfold bf_bt
  rw [Int32.toBitVec_shiftRight]
  show (x.toBitVec.sshiftRight ((nI n &&& 31).toBitVec.smod 32).toNat).getLsbD i = _
  rw [bf_sl n hn, BitVec.getLsbD_sshiftRight, BitVec.msb_eq_getLsbD_last]
  simp [hi]
/-- the class's own test of a cell in 'over' -/
def bf_bit (x : Int32) (k : Nat) : Prop := ((x >>> (nI k &&& 31)) &&& 1) = 1
theorem bf_odd (y : Int32) : y &&& 1 = 1 ↔ bf_bt y 0 = true := by
  rw [pk_and y (m := 1) 1 (by decide)]
  have e : nI (y.toBitVec.toNat % 2 ^ 1) = 1 ↔ y.toBitVec.toNat % 2 ^ 1 = 1 := nI_eq (a := y.toBitVec.toNat % 2 ^ 1) (b := 1) (by omega) (by decide)
  rw [e]
  unfold bf_bt BitVec.getLsbD
  rw [Nat.testBit_zero, decide_eq_true_iff]
theorem bf_bit_iff (x : Int32) {k : Nat} (hk : k < 32) : bf_bit x k ↔ bf_bt x k = true := by
  have h0 : bf_bt (x >>> (nI k &&& 31)) 0 = bf_bt x k := by
    rw [bf_bshr k hk x (show 0 < 32 by decide), Nat.add_zero, if_pos hk]
  unfold bf_bit
  rw [bf_odd, h0]
theorem bf_bit_set (x : Int32) {k : Nat} (hk : k < 32) : bf_bit (x ||| ((1 : Int32) <<< (nI k &&& 31))) k := by
  rw [bf_bit_iff _ hk, bf_bor, bf_bshl k hk 1 hk, Nat.sub_self]
  have h1 : bf_bt 1 0 = true := by decide
  rw [h1]
  simp
theorem bf_bit_or {x : Int32} (y : Int32) {k : Nat} (hk : k < 32) (h : bf_bit x k) : bf_bit (x ||| y) k := by
  rw [bf_bit_iff _ hk] at h ⊢
  rw [bf_bor, h]
  rfl

/-! ===== a pile as a list, its top first, in an array from place 0 ===== -/
def bf_stk : List Int32 → (Nat → Int32) → Prop
  | [], _ => True
  | x :: r, a => a r.length = x ∧ bf_stk r a
theorem bf_stk_upd {r : List Int32} {a : Nat → Int32} {k : Nat} {v : Int32} (h : bf_stk r a) (hk : r.length ≤ k) : bf_stk r (upd a k v) := by
  induction r with
  | nil => trivial
  | cons x r ih =>
    obtain ⟨h1, h2⟩ := h
    have hk' : r.length + 1 ≤ k := hk
    exact ⟨by rw [pk_un (by omega)]; exact h1, ih h2 (by omega)⟩
theorem bf_stk_push {r : List Int32} {a : Nat → Int32} {v : Int32} (h : bf_stk r a) : bf_stk (v :: r) (upd a r.length v) :=
  ⟨pk_us, bf_stk_upd h (Nat.le_refl _)⟩
theorem bf_stk_eq {r : List Int32} {a b : Nat → Int32} (ha : bf_stk r a) (hb : bf_stk r b) : ∀ i, i < r.length → a i = b i := by
  induction r with
  | nil => intro i hi; exact absurd hi (Nat.not_lt_zero i)
  | cons x r ih =>
    obtain ⟨h1, h2⟩ := ha
    obtain ⟨g1, g2⟩ := hb
    intro i hi
    have hi' : i < r.length + 1 := hi
    by_cases e : i = r.length
    · rw [e, h1, g1]
    · exact ih h2 g2 i (by omega)

/-! ===== the operations of a trace as a list, the last first, in the places t * 16 .. ===== -/
def bf_ops (t : Nat) : List (Int32 × Int32) → (Nat → Int32) → (Nat → Int32) → Prop
  | [], _, _ => True
  | x :: r, a, b => a (t * 16 + r.length) = x.1 ∧ b (t * 16 + r.length) = x.2 ∧ bf_ops t r a b
theorem bf_ops_cong {t : Nat} {r : List (Int32 × Int32)} {a b a' b' : Nat → Int32} (h : bf_ops t r a b) (ha : ∀ j, j < r.length → a' (t * 16 + j) = a (t * 16 + j)) (hb : ∀ j, j < r.length → b' (t * 16 + j) = b (t * 16 + j)) : bf_ops t r a' b' := by
  induction r with
  | nil => trivial
  | cons x r ih =>
    obtain ⟨h1, h2, h3⟩ := h
    have hl : r.length < (x :: r).length := Nat.lt_succ_self _
    exact ⟨by rw [ha _ hl]; exact h1, by rw [hb _ hl]; exact h2, ih h3 (fun j hj => ha j (Nat.lt_trans hj hl)) (fun j hj => hb j (Nat.lt_trans hj hl))⟩
theorem bf_ops_u1 {t : Nat} {r : List (Int32 × Int32)} {a b : Nat → Int32} {k : Nat} {v : Int32} (h : bf_ops t r a b) (hk : t * 16 + r.length ≤ k) : bf_ops t r (upd a k v) b :=
  bf_ops_cong h (fun j hj => pk_un (by omega)) (fun j hj => rfl)
theorem bf_ops_u2 {t : Nat} {r : List (Int32 × Int32)} {a b : Nat → Int32} {k : Nat} {v : Int32} (h : bf_ops t r a b) (hk : t * 16 + r.length ≤ k) : bf_ops t r a (upd b k v) :=
  bf_ops_cong h (fun j hj => rfl) (fun j hj => pk_un (by omega))
theorem bf_ops_get {r : List (Int32 × Int32)} : ∀ i, i < r.length → ∃ x, x ∈ r ∧ ∀ (t : Nat) (a b : Nat → Int32), bf_ops t r a b → a (t * 16 + i) = x.1 ∧ b (t * 16 + i) = x.2 := by
  induction r with
  | nil => intro i hi; exact absurd hi (Nat.not_lt_zero i)
  | cons x r ih =>
    intro i hi
    have hi' : i < r.length + 1 := hi
    by_cases e : i = r.length
    · refine ⟨x, List.mem_cons_self, fun t a b h => ?_⟩
      obtain ⟨h1, h2, h3⟩ := h
      rw [e]
      exact ⟨h1, h2⟩
    · obtain ⟨y, hy, H⟩ := ih i (by omega)
      exact ⟨y, List.mem_cons_of_mem _ hy, fun t a b h => H t a b h.2.2⟩
/-- all but the places of trace t -/
def bf_fr (t : Nat) (a b : Nat → Int32) : Prop := ∀ j, j < t * 16 ∨ t * 16 + 16 ≤ j → a j = b j
def bf_f1 (t : Nat) (a b : Nat → Int32) : Prop := ∀ j, j ≠ t → a j = b j
theorem bf_fr_r (t : Nat) (a : Nat → Int32) : bf_fr t a a := fun _ _ => rfl
theorem bf_f1_r (t : Nat) (a : Nat → Int32) : bf_f1 t a a := fun _ _ => rfl
theorem bf_fr_t {t : Nat} {a b c : Nat → Int32} (h : bf_fr t a b) (h2 : bf_fr t b c) : bf_fr t a c := fun j hj => (h j hj).trans (h2 j hj)
theorem bf_f1_t {t : Nat} {a b c : Nat → Int32} (h : bf_f1 t a b) (h2 : bf_f1 t b c) : bf_f1 t a c := fun j hj => (h j hj).trans (h2 j hj)
theorem bf_fr_u {t : Nat} (a : Nat → Int32) {k : Nat} (v : Int32) (h : t * 16 ≤ k) (h2 : k < t * 16 + 16) : bf_fr t (upd a k v) a := fun j hj => pk_un (by omega)
theorem bf_f1_u (t : Nat) (a : Nat → Int32) (v : Int32) : bf_f1 t (upd a t v) a := fun j hj => pk_un hj
theorem bf_ops_fr {t t' : Nat} {r : List (Int32 × Int32)} {a b a' b' : Nat → Int32} (h : bf_ops t' r a b) (hl : r.length ≤ 16) (ht : t' ≠ t) (ha : bf_fr t a' a) (hb : bf_fr t b' b) : bf_ops t' r a' b' :=
  bf_ops_cong h (fun j hj => ha _ (by omega)) (fun j hj => hb _ (by omega))

/-! ===== moving over the grid ===== -/
def bf_mvI (p q : Int32) : Int32 :=
  if q = 0 then (((p &&& 7) + 1) &&& 7) + (8 * (p >>> ((3 : Int32) &&& 31)))
  else if q = 1 then (((p &&& 7) - 1) &&& 7) + (8 * (p >>> ((3 : Int32) &&& 31)))
  else if q = 2 then (p &&& 7) + (8 * (((p >>> ((3 : Int32) &&& 31)) + 1) &&& 3))
  else (p &&& 7) + (8 * (((p >>> ((3 : Int32) &&& 31)) - 1) &&& 3))
def bf_mv (c w : Nat) : Nat := (bf_mvI (nI c) (nI w)).toNatClampNeg
theorem bf_mv_ok : ∀ c, c < 32 → ∀ w, w < 4 → bf_mvI (nI c) (nI w) = nI (bf_mv c w) ∧ bf_mv c w < 32 := by decide +kernel
theorem bf_moved {post : Int32 → Prop} {p q : Nat} {c w e d h wr l ma lv : Int32} {a1 a2 a3 a4 a5 a6 a7 a8 a9 a10 a11 a12 a13 a14 : Nat → Int32} (hp : p < 32) (hq : q < 4) (hh : post (nI (bf_mv p q))) : wpX_moved post (c, w, e, d, h, wr, l, ma, lv, a1, a2, a3, a4, a5, a6, a7, a8, a9, a10, a11, a12, a13, a14) (nI p) (nI q) := by
  rw [← (bf_mv_ok p hp q hq).1] at hh
  unfold bf_mvI at hh
  refine nm_e (nm_e ?_)
  by_cases h0 : nI q = 0
  · rw [if_pos h0] at hh
    exact br_t h0 (nm_e hh)
  · rw [if_neg h0] at hh
    refine br_f h0 ?_
    by_cases h1 : nI q = 1
    · rw [if_pos h1] at hh
      exact br_t h1 (nm_e hh)
    · rw [if_neg h1] at hh
      refine br_f h1 ?_
      by_cases h2 : nI q = 2
      · rw [if_pos h2] at hh
        exact br_t h2 (nm_e hh)
      · rw [if_neg h2] at hh
        exact br_f h2 (nm_e hh)
/-- the place of a cell out of two masks -/
theorem bf_cell (x y : Int32) : ∃ k : Nat, k < 32 ∧ (x &&& 7) + (8 * (y &&& 3)) = nI k := by
  obtain ⟨i, hi, ei⟩ := pk_andE x (m := 7) 3 (by decide)
  obtain ⟨j, hj, ej⟩ := pk_andE y (m := 3) 2 (by decide)
  refine ⟨i + 8 * j, by omega, ?_⟩
  rw [ei, ej]
  show nI i + nI 8 * nI j = _
  rw [pk_mul, nI_add]
end
section
/-! ===== what 'enter' does to a trace under way: need, rise, level and the operations ===== -/
theorem bf_ix0 (t n : Nat) : nI t * 16 + nI n = nI (t * 16 + n) := by
  show nI t * nI 16 + nI n = _
  rw [pk_mul, nI_add]
theorem bf_ix {t n k m : Nat} (h : t * 16 + n = m + k) : nI t * 16 + nI n - nI k = nI m := by
  rw [bf_ix0, pk_sub (by omega), h, Nat.add_sub_cancel]
theorem bf_acc27 (off on rs lv : Int32) : ∃ rs' : Int32, ∀ ⦃t : Nat⦄ ⦃c w e d h wr l ma : Int32⦄ ⦃a1 a2 a3 a4 a5 a6 a7 a8 a9 a10 a11 a12 a13 a14 : Nat → Int32⦄ ⦃post : St1 → Prop⦄, t < 16 → a9 t = rs →
    (∀ b9 : Nat → Int32, b9 t = rs' → bf_f1 t b9 a9 → post (c, w, e, d, h, wr, l, ma, lv - off + on, a1, a2, a3, a4, a5, a6, a7, a8, b9, a10, a11, a12, a13, a14)) → wX_account_27 post (nI t) off on c w e d h wr l ma lv a1 a2 a3 a4 a5 a6 a7 a8 a9 a10 a11 a12 a13 a14 := by
  by_cases hh : lv - off + on ≤ rs
  · refine ⟨rs, ?_⟩
    intro t c w e d h wr l ma a1 a2 a3 a4 a5 a6 a7 a8 a9 a10 a11 a12 a13 a14 post ht e9 hp
    have et : (nI t).toNatClampNeg = t := nI_clamp (by omega)
    exact nm_e ⟨vp_in_nI ht (by decide), br_t (by rw [et, e9]; exact hh) (hp a9 e9 (bf_f1_r t a9))⟩
  · refine ⟨lv - off + on, ?_⟩
    intro t c w e d h wr l ma a1 a2 a3 a4 a5 a6 a7 a8 a9 a10 a11 a12 a13 a14 post ht e9 hp
    have et : (nI t).toNatClampNeg = t := nI_clamp (by omega)
    refine nm_e ⟨vp_in_nI ht (by decide), br_f (by rw [et, e9]; exact hh) ⟨vp_in_nI ht (by decide), nm_r (e' := upd a9 t (lv - off + on)) (by rw [et]) ?_⟩⟩
    exact hp _ pk_us (bf_f1_u t a9 _)
theorem bf_acc (off on nd rs lv : Int32) : ∃ nd' rs' : Int32, ∀ ⦃t : Nat⦄ ⦃c w e d h wr l ma : Int32⦄ ⦃a1 a2 a3 a4 a5 a6 a7 a8 a9 a10 a11 a12 a13 a14 : Nat → Int32⦄ ⦃post : St1 → Prop⦄, t < 16 → a8 t = nd → a9 t = rs →
    (∀ b8 b9 : Nat → Int32, b8 t = nd' → b9 t = rs' → bf_f1 t b8 a8 → bf_f1 t b9 a9 → post (c, w, e, d, h, wr, l, ma, lv - off + on, a1, a2, a3, a4, a5, a6, a7, b8, b9, a10, a11, a12, a13, a14)) → wpX_account post (c, w, e, d, h, wr, l, ma, lv, a1, a2, a3, a4, a5, a6, a7, a8, a9, a10, a11, a12, a13, a14) (nI t) off on := by
  obtain ⟨rs', H⟩ := bf_acc27 off on rs lv
  by_cases hh : off - lv ≤ nd
  · refine ⟨nd, rs', ?_⟩
    intro t c w e d h wr l ma a1 a2 a3 a4 a5 a6 a7 a8 a9 a10 a11 a12 a13 a14 post ht e8 e9 hp
    have et : (nI t).toNatClampNeg = t := nI_clamp (by omega)
    exact ⟨vp_in_nI ht (by decide), br_t (by rw [et, e8]; exact hh) (H ht e9 (fun b9 h9 f9 => hp a8 b9 e8 h9 (bf_f1_r t a8) f9))⟩
  · refine ⟨off - lv, rs', ?_⟩
    intro t c w e d h wr l ma a1 a2 a3 a4 a5 a6 a7 a8 a9 a10 a11 a12 a13 a14 post ht e8 e9 hp
    have et : (nI t).toNatClampNeg = t := nI_clamp (by omega)
    refine ⟨vp_in_nI ht (by decide), br_f (by rw [et, e8]; exact hh) ⟨vp_in_nI ht (by decide), nm_r (e' := upd a8 t (off - lv)) (by rw [et]) ?_⟩⟩
    exact H ht e9 (fun b9 h9 f9 => hp _ b9 pk_us h9 (bf_f1_u t a8 _) f9)
theorem bf_add {t : Nat} {ops : List (Int32 × Int32)} {c w e d h wr l lv : Int32} {a1 a2 a3 a4 a5 a6 a7 a8 a9 a10 a11 a12 a13 a14 : Nat → Int32} {post : St1 → Prop} {x v : Int32} (ht : t < 16) (hl : ops.length < 16) (ho : bf_ops t ops a13 a14)
    (hp : ∀ b13 b14 : Nat → Int32, bf_ops t ((x, v) :: ops) b13 b14 → bf_fr t b13 a13 → bf_fr t b14 a14 → post (c, w, e, d, h, wr, l, nI (ops.length + 1), lv, a1, a2, a3, a4, a5, a6, a7, a8, a9, a10, a11, a12, b13, b14)) :
    wpX_add post (c, w, e, d, h, wr, l, nI ops.length, lv, a1, a2, a3, a4, a5, a6, a7, a8, a9, a10, a11, a12, a13, a14) (nI t) x v := by
  have ix := bf_ix0 t ops.length
  have et : (nI t * 16 + nI ops.length).toNatClampNeg = t * 16 + ops.length := by rw [ix]; exact nI_clamp (by omega)
  have hv : vp_in (nI t * 16 + nI ops.length) 256 := by rw [ix]; exact vp_in_nI (by omega) (by decide)
  refine ⟨hv, nm_r (e' := upd a13 (t * 16 + ops.length) x) (by rw [et]) ⟨hv, nm_r (e' := upd a14 (t * 16 + ops.length) v) (by rw [et]) (nm_r (nI_1 _) ?_)⟩⟩
  exact hp _ _ ⟨pk_us, pk_us, bf_ops_u1 (bf_ops_u2 ho (by omega)) (by omega)⟩ (bf_fr_u _ _ (by omega) (by omega)) (bf_fr_u _ _ (by omega) (by omega))
theorem bf_kn1 (ops : List (Int32 × Int32)) : ∃ r : Int32, (¬ r = 0 → ∃ (v : Int32) (q : List (Int32 × Int32)), ops = (40, v) :: q) ∧
    ∀ ⦃t : Nat⦄ ⦃c w e d h wr l lv : Int32⦄ ⦃a1 a2 a3 a4 a5 a6 a7 a8 a9 a10 a11 a12 a13 a14 : Nat → Int32⦄ ⦃post : Int32 → Prop⦄, t < 16 → ops.length ≤ 12 → bf_ops t ops a13 a14 → post r → wpX_known post (c, w, e, d, h, wr, l, nI ops.length, lv, a1, a2, a3, a4, a5, a6, a7, a8, a9, a10, a11, a12, a13, a14) (nI t) 1 := by
  cases ops with
  | nil =>
    refine ⟨0, fun h => absurd rfl h, ?_⟩
    intro t c w e d h wr l lv a1 a2 a3 a4 a5 a6 a7 a8 a9 a10 a11 a12 a13 a14 post ht hl ho hp
    exact br_t (show nI 0 < 1 by decide) ⟨1, br_f (by decide) (br_t rfl ⟨rfl, hp⟩)⟩
  | cons x q =>
    have key : ∀ ⦃t : Nat⦄ ⦃c w e d h wr l lv : Int32⦄ ⦃a1 a2 a3 a4 a5 a6 a7 a8 a9 a10 a11 a12 a13 a14 : Nat → Int32⦄ ⦃post : Int32 → Prop⦄, t < 16 → q.length + 1 ≤ 12 → bf_ops t (x :: q) a13 a14 → (x.1 = 40 → post 1) → (¬ x.1 = 40 → post 0) → wpX_known post (c, w, e, d, h, wr, l, nI (q.length + 1), lv, a1, a2, a3, a4, a5, a6, a7, a8, a9, a10, a11, a12, a13, a14) (nI t) 1 := by
      intro t c w e d h wr l lv a1 a2 a3 a4 a5 a6 a7 a8 a9 a10 a11 a12 a13 a14 post ht hl ho h1 h0
      obtain ⟨o1, o2, o3⟩ := ho
      have ix : nI t * 16 + nI (q.length + 1) - 1 = nI (t * 16 + q.length) := bf_ix (k := 1) (by omega)
      have et : (nI t * 16 + nI (q.length + 1) - 1).toNatClampNeg = t * 16 + q.length := by rw [ix]; exact nI_clamp (by omega)
      refine br_f (nI_nlt (b := 1) (by omega) (by omega)) ⟨2, br_f (by decide) (br_f (by decide) ⟨by rw [ix]; exact vp_in_nI (by omega) (by decide), ?_⟩)⟩
      rw [et, o1]
      exact br_c (fun z => nm_e (br_t (by decide) ⟨rfl, h1 z⟩)) (fun z => nm_e (br_t (by decide) ⟨rfl, h0 z⟩))
    obtain ⟨o, v⟩ := x
    by_cases ho : o = 40
    · subst ho
      refine ⟨1, fun _ => ⟨v, q, rfl⟩, ?_⟩
      intro t c w e d h wr l lv a1 a2 a3 a4 a5 a6 a7 a8 a9 a10 a11 a12 a13 a14 post ht hl hh hp
      exact key ht hl hh (fun _ => hp) (fun z => absurd rfl z)
    · refine ⟨0, fun h => absurd rfl h, ?_⟩
      intro t c w e d h wr l lv a1 a2 a3 a4 a5 a6 a7 a8 a9 a10 a11 a12 a13 a14 post ht hl hh hp
      exact key ht hl hh (fun z => absurd z ho) (fun _ => hp)
theorem bf_kn2 (ops : List (Int32 × Int32)) : ∃ r : Int32, (¬ r = 0 → ∃ (a b : Int32) (q : List (Int32 × Int32)), ops = (40, b) :: (40, a) :: q) ∧
    ∀ ⦃t : Nat⦄ ⦃c w e d h wr l lv : Int32⦄ ⦃a1 a2 a3 a4 a5 a6 a7 a8 a9 a10 a11 a12 a13 a14 : Nat → Int32⦄ ⦃post : Int32 → Prop⦄, t < 16 → ops.length ≤ 12 → bf_ops t ops a13 a14 → post r → wpX_known post (c, w, e, d, h, wr, l, nI ops.length, lv, a1, a2, a3, a4, a5, a6, a7, a8, a9, a10, a11, a12, a13, a14) (nI t) 2 := by
  cases ops with
  | nil =>
    refine ⟨0, fun h => absurd rfl h, ?_⟩
    intro t c w e d h wr l lv a1 a2 a3 a4 a5 a6 a7 a8 a9 a10 a11 a12 a13 a14 post ht hl ho hp
    exact br_t (show nI 0 < 2 by decide) ⟨1, br_f (by decide) (br_t rfl ⟨rfl, hp⟩)⟩
  | cons y q1 =>
    cases q1 with
    | nil =>
      refine ⟨0, fun h => absurd rfl h, ?_⟩
      intro t c w e d h wr l lv a1 a2 a3 a4 a5 a6 a7 a8 a9 a10 a11 a12 a13 a14 post ht hl ho hp
      exact br_t (show nI 1 < 2 by decide) ⟨1, br_f (by decide) (br_t rfl ⟨rfl, hp⟩)⟩
    | cons x q =>
      have key : ∀ ⦃t : Nat⦄ ⦃c w e d h wr l lv : Int32⦄ ⦃a1 a2 a3 a4 a5 a6 a7 a8 a9 a10 a11 a12 a13 a14 : Nat → Int32⦄ ⦃post : Int32 → Prop⦄, t < 16 → q.length + 2 ≤ 12 → bf_ops t (y :: x :: q) a13 a14 → (y.1 = 40 → x.1 = 40 → post 1) → (¬ (y.1 = 40 ∧ x.1 = 40) → post 0) → wpX_known post (c, w, e, d, h, wr, l, nI (q.length + 2), lv, a1, a2, a3, a4, a5, a6, a7, a8, a9, a10, a11, a12, a13, a14) (nI t) 2 := by
        intro t c w e d h wr l lv a1 a2 a3 a4 a5 a6 a7 a8 a9 a10 a11 a12 a13 a14 post ht hl ho h1 h0
        obtain ⟨o1, o2, p1, p2, p3⟩ := ho
        have ix1 : nI t * 16 + nI (q.length + 2) - 1 = nI (t * 16 + (q.length + 1)) := bf_ix (k := 1) (by omega)
        have et1 : (nI t * 16 + nI (q.length + 2) - 1).toNatClampNeg = t * 16 + (q.length + 1) := by rw [ix1]; exact nI_clamp (by omega)
        have ix2 : nI t * 16 + nI (q.length + 2) - 2 = nI (t * 16 + q.length) := bf_ix (k := 2) (by omega)
        have et2 : (nI t * 16 + nI (q.length + 2) - 2).toNatClampNeg = t * 16 + q.length := by rw [ix2]; exact nI_clamp (by omega)
        have o1' : a13 (t * 16 + (q.length + 1)) = y.1 := o1
        refine br_f (nI_nlt (b := 2) (by omega) (by omega)) ⟨3, br_f (by decide) (br_f (by decide) ⟨by rw [ix1]; exact vp_in_nI (by omega) (by decide), ?_⟩)⟩
        rw [et1, o1']
        refine br_c (fun z => nm_r (e' := 2) (by decide) (br_f (by decide) (br_f (by decide) ⟨by rw [ix2]; exact vp_in_nI (by omega) (by decide), ?_⟩))) (fun z => nm_r (e' := 2) (by decide) (br_f (by decide) (br_t rfl ⟨rfl, h0 (fun hh => z hh.1)⟩)))
        rw [et2, p1]
        exact br_c (fun z2 => nm_e (br_t (by decide) ⟨rfl, h1 z z2⟩)) (fun z2 => nm_e (br_t (by decide) ⟨rfl, h0 (fun hh => z2 hh.2)⟩))
      obtain ⟨o, v⟩ := x
      obtain ⟨o', v'⟩ := y
      by_cases ho : o' = 40 ∧ o = 40
      · obtain ⟨rfl, rfl⟩ := ho
        refine ⟨1, fun _ => ⟨v, v', q, rfl⟩, ?_⟩
        intro t c w e d h wr l lv a1 a2 a3 a4 a5 a6 a7 a8 a9 a10 a11 a12 a13 a14 post ht hl hh hp
        exact key ht hl hh (fun _ _ => hp) (fun z => absurd ⟨rfl, rfl⟩ z)
      · refine ⟨0, fun h => absurd rfl h, ?_⟩
        intro t c w e d h wr l lv a1 a2 a3 a4 a5 a6 a7 a8 a9 a10 a11 a12 a13 a14 post ht hl hh hp
        exact key ht hl hh (fun z z2 => absurd ⟨z, z2⟩ ho) (fun _ => hp)
theorem bf_comb (k a b : Int32) : ∃ r : Int32, ∀ ⦃c w e d h wr l ma lv : Int32⦄ ⦃a1 a2 a3 a4 a5 a6 a7 a8 a9 a10 a11 a12 a13 a14 : Nat → Int32⦄ ⦃post : Int32 → Prop⦄ ⦃x y : Int32⦄, x = a → y = b → post r → wpX_combined post (c, w, e, d, h, wr, l, ma, lv, a1, a2, a3, a4, a5, a6, a7, a8, a9, a10, a11, a12, a13, a14) k x y := by
  by_cases h0 : k = 10
  · refine ⟨a + b, ?_⟩
    intro c w e d h wr l ma lv a1 a2 a3 a4 a5 a6 a7 a8 a9 a10 a11 a12 a13 a14 post x y ex ey hp
    subst ex ey
    exact br_t h0 hp
  by_cases h1 : k = 11
  · refine ⟨a - b, ?_⟩
    intro c w e d h wr l ma lv a1 a2 a3 a4 a5 a6 a7 a8 a9 a10 a11 a12 a13 a14 post x y ex ey hp
    subst ex ey
    exact br_f h0 (br_t h1 hp)
  by_cases h2 : k = 12
  · refine ⟨a * b, ?_⟩
    intro c w e d h wr l ma lv a1 a2 a3 a4 a5 a6 a7 a8 a9 a10 a11 a12 a13 a14 post x y ex ey hp
    subst ex ey
    exact br_f h0 (br_f h1 (br_t h2 hp))
  by_cases h3 : a ≤ b
  · refine ⟨0, ?_⟩
    intro c w e d h wr l ma lv a1 a2 a3 a4 a5 a6 a7 a8 a9 a10 a11 a12 a13 a14 post x y ex ey hp
    subst ex ey
    exact br_f h0 (br_f h1 (br_f h2 (br_t h3 hp)))
  · refine ⟨1, ?_⟩
    intro c w e d h wr l ma lv a1 a2 a3 a4 a5 a6 a7 a8 a9 a10 a11 a12 a13 a14 post x y ex ey hp
    subst ex ey
    exact br_f h0 (br_f h1 (br_f h2 (br_f h3 hp)))

def bf_tk (t : Nat) (nd rs : Int32) (ops : List (Int32 × Int32)) (a8 a9 a13 a14 : Nat → Int32) : Prop := a8 t = nd ∧ a9 t = rs ∧ bf_ops t ops a13 a14
def bf_f4 (t : Nat) (b8 b9 b13 b14 a8 a9 a13 a14 : Nat → Int32) : Prop := bf_f1 t b8 a8 ∧ bf_f1 t b9 a9 ∧ bf_fr t b13 a13 ∧ bf_fr t b14 a14
/-- cells and inputs that a trace reads are in range -/
def bf_G (ops : List (Int32 × Int32)) : Prop := ∀ x, x ∈ ops → (x.1 = 41 → vp_in x.2 32) ∧ (x.1 = 42 → vp_in x.2 4)
theorem bf_G_tl {x : Int32 × Int32} {q : List (Int32 × Int32)} (h : bf_G (x :: q)) : bf_G q := fun y hy => h y (List.mem_cons_of_mem _ hy)
theorem bf_G_cons {x v : Int32} {q : List (Int32 × Int32)} (h : bf_G q) (h1 : x = 41 → vp_in v 32) (h2 : x = 42 → vp_in v 4) : bf_G ((x, v) :: q) := by
  intro y hy
  rcases List.mem_cons.mp hy with e | e
  · subst e
    exact ⟨h1, h2⟩
  · exact h y e
abbrev bf_TT : Type := Int32 × Int32 × Int32 × List (Int32 × Int32)
/-- W at 'code' takes a trace under way (nd, rs, lv, ops) to T -/
def bf_EX (W : (St1 → Prop) → St1 → Int32 → Int32 → Prop) (code nd rs lv : Int32) (ops : List (Int32 × Int32)) (T : bf_TT) : Prop :=
  T.2.2.2.length ≤ ops.length + 1 ∧ (bf_G ops → bf_G T.2.2.2) ∧
  ∀ ⦃t : Nat⦄ ⦃c w e d h wr l : Int32⦄ ⦃a1 a2 a3 a4 a5 a6 a7 a8 a9 a10 a11 a12 a13 a14 : Nat → Int32⦄ ⦃post : St1 → Prop⦄, t < 16 → bf_tk t nd rs ops a8 a9 a13 a14 →
    (∀ b8 b9 b13 b14 : Nat → Int32, bf_tk t T.1 T.2.1 T.2.2.2 b8 b9 b13 b14 → bf_f4 t b8 b9 b13 b14 a8 a9 a13 a14 → post (c, w, e, d, h, wr, l, nI T.2.2.2.length, T.2.2.1, a1, a2, a3, a4, a5, a6, a7, b8, b9, a10, a11, a12, b13, b14)) →
    W post (c, w, e, d, h, wr, l, nI ops.length, lv, a1, a2, a3, a4, a5, a6, a7, a8, a9, a10, a11, a12, a13, a14) (nI t) code
end
section
theorem bf_two (code nd rs lv : Int32) (ops : List (Int32 × Int32)) (hl : ops.length ≤ 12) (h1 : ¬ code = 41) (h2 : ¬ code = 42) : ∃ T, bf_EX wpX_foldTwo code nd rs lv ops T := by
  obtain ⟨nd', rs', A⟩ := bf_acc 2 1 nd rs lv
  obtain ⟨r, hr, K⟩ := bf_kn2 ops
  by_cases h0 : r = 0
  · refine ⟨(nd', rs', lv - 2 + 1, (code, 0) :: ops), Nat.le_refl _, fun g => bf_G_cons g (fun z => absurd z h1) (fun z => absurd z h2), ?_⟩
    intro t c w e d h wr l a1 a2 a3 a4 a5 a6 a7 a8 a9 a10 a11 a12 a13 a14 post ht tk hp
    obtain ⟨t8, t9, to⟩ := tk
    unfold wpX_foldTwo
    dsimp only
    refine A ht t8 t9 (fun b8 b9 h8 h9 f8 f9 => ?_)
    refine K ht hl to (br_t h0 ?_)
    exact bf_add ht (by omega) to (fun b13 b14 ho f13 f14 => hp b8 b9 b13 b14 ⟨h8, h9, ho⟩ ⟨f8, f9, f13, f14⟩)
  · obtain ⟨a, b, q, rfl⟩ := hr h0
    obtain ⟨v, C⟩ := bf_comb code a b
    have hl' : q.length + 2 ≤ 12 := hl
    refine ⟨(nd', rs', lv - 2 + 1, (40, v) :: q), ?_, fun g => bf_G_cons (bf_G_tl (bf_G_tl g)) (fun z => absurd z (by decide)) (fun z => absurd z (by decide)), ?_⟩
    · show q.length + 1 ≤ q.length + 2 + 1
      omega
    intro t c w e d h wr l a1 a2 a3 a4 a5 a6 a7 a8 a9 a10 a11 a12 a13 a14 post ht tk hp
    obtain ⟨t8, t9, o1, o2, p1, p2, to⟩ := tk
    have ix : nI t * 16 + nI (q.length + 2) - 2 = nI (t * 16 + q.length) := bf_ix (k := 2) (by omega)
    have ix1 : nI (t * 16 + q.length) + 1 = nI (t * 16 + (q.length + 1)) := nI_1 _
    have et : (nI (t * 16 + q.length)).toNatClampNeg = t * 16 + q.length := nI_clamp (by omega)
    have et1 : (nI (t * 16 + q.length) + 1).toNatClampNeg = t * 16 + (q.length + 1) := by rw [ix1]; exact nI_clamp (by omega)
    have hv : vp_in (nI (t * 16 + q.length)) 256 := vp_in_nI (by omega) (by decide)
    have hv1 : vp_in (nI (t * 16 + q.length) + 1) 256 := by rw [ix1]; exact vp_in_nI (by omega) (by decide)
    unfold wpX_foldTwo
    dsimp only
    refine A ht t8 t9 (fun b8 b9 h8 h9 f8 f9 => ?_)
    refine K ht hl ⟨o1, o2, p1, p2, to⟩ (br_f h0 (nm_r ix ⟨hv, hv1, ?_⟩))
    refine C (by rw [et]; exact p2) (by rw [et1]; exact o2) ⟨hv, nm_r (e' := upd a14 (t * 16 + q.length) v) (by rw [et]) (nm_r (nI_pred (q.length + 1)) ?_)⟩
    exact hp b8 b9 a13 _ ⟨h8, h9, p1, pk_us, bf_ops_u2 to (Nat.le_refl _)⟩ ⟨f8, f9, bf_fr_r _ _, bf_fr_u _ _ (by omega) (by omega)⟩
theorem bf_one (code nd rs lv : Int32) (ops : List (Int32 × Int32)) (hl : ops.length ≤ 12) : ∃ T, bf_EX wpX_foldOne code nd rs lv ops T := by
  obtain ⟨r, hr, K⟩ := bf_kn1 ops
  by_cases c14 : code = 14
  · obtain ⟨nd', rs', A⟩ := bf_acc 1 2 nd rs lv
    by_cases h0 : r = 0
    · refine ⟨(nd', rs', lv - 1 + 2, (14, 0) :: ops), Nat.le_refl _, fun g => bf_G_cons g (fun z => absurd z (by decide)) (fun z => absurd z (by decide)), ?_⟩
      intro t c w e d h wr l a1 a2 a3 a4 a5 a6 a7 a8 a9 a10 a11 a12 a13 a14 post ht tk hp
      obtain ⟨t8, t9, to⟩ := tk
      refine nm_e (K ht hl to (br_t c14 (A ht t8 t9 (fun b8 b9 h8 h9 f8 f9 => br_t h0 (br_t h0 ?_)))))
      exact bf_add ht (by omega) to (fun b13 b14 ho f13 f14 => hp b8 b9 b13 b14 ⟨h8, h9, ho⟩ ⟨f8, f9, f13, f14⟩)
    · obtain ⟨v, q, rfl⟩ := hr h0
      have hl' : q.length + 1 ≤ 12 := hl
      refine ⟨(nd', rs', lv - 1 + 2, (40, v) :: (40, v) :: q), Nat.le_refl _, fun g => bf_G_cons g (fun z => absurd z (by decide)) (fun z => absurd z (by decide)), ?_⟩
      intro t c w e d h wr l a1 a2 a3 a4 a5 a6 a7 a8 a9 a10 a11 a12 a13 a14 post ht tk hp
      obtain ⟨t8, t9, o1, o2, to⟩ := tk
      have ix : nI t * 16 + nI (q.length + 1) - 1 = nI (t * 16 + q.length) := bf_ix (k := 1) (by omega)
      have hv : vp_in (nI (t * 16 + q.length)) 256 := vp_in_nI (by omega) (by decide)
      have ev : a14 (nI (t * 16 + q.length)).toNatClampNeg = v := by rw [nI_clamp (by omega)]; exact o2
      refine nm_r ix (K ht hl ⟨o1, o2, to⟩ (br_t c14 (A ht t8 t9 (fun b8 b9 h8 h9 f8 f9 => br_f h0 (br_f h0 ⟨hv, ?_⟩)))))
      rw [ev]
      exact bf_add (ops := (40, v) :: q) ht (show q.length + 1 < 16 by omega) ⟨o1, o2, to⟩ (fun b13 b14 ho f13 f14 => hp b8 b9 b13 b14 ⟨h8, h9, ho⟩ ⟨f8, f9, f13, f14⟩)
  by_cases c16 : code = 16
  · obtain ⟨nd', rs', A⟩ := bf_acc 1 0 nd rs lv
    by_cases h0 : r = 0
    · refine ⟨(nd', rs', lv - 1 + 0, (16, 0) :: ops), Nat.le_refl _, fun g => bf_G_cons g (fun z => absurd z (by decide)) (fun z => absurd z (by decide)), ?_⟩
      intro t c w e d h wr l a1 a2 a3 a4 a5 a6 a7 a8 a9 a10 a11 a12 a13 a14 post ht tk hp
      obtain ⟨t8, t9, to⟩ := tk
      refine nm_e (K ht hl to (br_f c14 (br_t c16 (A ht t8 t9 (fun b8 b9 h8 h9 f8 f9 => br_t h0 ?_)))))
      exact bf_add ht (by omega) to (fun b13 b14 ho f13 f14 => hp b8 b9 b13 b14 ⟨h8, h9, ho⟩ ⟨f8, f9, f13, f14⟩)
    · obtain ⟨v, q, rfl⟩ := hr h0
      have hl' : q.length + 1 ≤ 12 := hl
      refine ⟨(nd', rs', lv - 1 + 0, q), ?_, fun g => bf_G_tl g, ?_⟩
      · show q.length ≤ q.length + 1 + 1
        omega
      intro t c w e d h wr l a1 a2 a3 a4 a5 a6 a7 a8 a9 a10 a11 a12 a13 a14 post ht tk hp
      obtain ⟨t8, t9, o1, o2, to⟩ := tk
      refine nm_e (K ht hl ⟨o1, o2, to⟩ (br_f c14 (br_t c16 (A ht t8 t9 (fun b8 b9 h8 h9 f8 f9 => br_f h0 (nm_r (nI_pred q.length) ?_))))))
      exact hp b8 b9 a13 a14 ⟨h8, h9, to⟩ ⟨f8, f9, bf_fr_r _ _, bf_fr_r _ _⟩
  obtain ⟨nd', rs', A⟩ := bf_acc 1 1 nd rs lv
  by_cases c17 : code = 17
  · by_cases h0 : r = 0
    · refine ⟨(nd', rs', lv - 1 + 1, (17, 0) :: ops), Nat.le_refl _, fun g => bf_G_cons g (fun z => absurd z (by decide)) (fun z => absurd z (by decide)), ?_⟩
      intro t c w e d h wr l a1 a2 a3 a4 a5 a6 a7 a8 a9 a10 a11 a12 a13 a14 post ht tk hp
      obtain ⟨t8, t9, to⟩ := tk
      refine nm_e (K ht hl to (br_f c14 (br_f c16 (br_t c17 (A ht t8 t9 (fun b8 b9 h8 h9 f8 f9 => br_t h0 ?_))))))
      exact bf_add ht (by omega) to (fun b13 b14 ho f13 f14 => hp b8 b9 b13 b14 ⟨h8, h9, ho⟩ ⟨f8, f9, f13, f14⟩)
    · obtain ⟨v, q, rfl⟩ := hr h0
      have hl' : q.length + 1 ≤ 12 := hl
      by_cases hz : v = 0
      · refine ⟨(nd', rs', lv - 1 + 1, (40, 1) :: q), ?_, fun g => bf_G_cons (bf_G_tl g) (fun z => absurd z (by decide)) (fun z => absurd z (by decide)), ?_⟩
        · show q.length + 1 ≤ q.length + 1 + 1
          omega
        intro t c w e d h wr l a1 a2 a3 a4 a5 a6 a7 a8 a9 a10 a11 a12 a13 a14 post ht tk hp
        obtain ⟨t8, t9, o1, o2, to⟩ := tk
        have ix : nI t * 16 + nI (q.length + 1) - 1 = nI (t * 16 + q.length) := bf_ix (k := 1) (by omega)
        have hv : vp_in (nI (t * 16 + q.length)) 256 := vp_in_nI (by omega) (by decide)
        have et : (nI (t * 16 + q.length)).toNatClampNeg = t * 16 + q.length := nI_clamp (by omega)
        refine nm_r ix (K ht hl ⟨o1, o2, to⟩ (br_f c14 (br_f c16 (br_t c17 (A ht t8 t9 (fun b8 b9 h8 h9 f8 f9 => br_f h0 ⟨hv, br_t (by rw [et]; exact o2.trans hz) ⟨hv, nm_r (e' := upd a14 (t * 16 + q.length) 1) (by rw [et]) ?_⟩⟩))))))
        exact hp b8 b9 a13 _ ⟨h8, h9, o1, pk_us, bf_ops_u2 to (Nat.le_refl _)⟩ ⟨f8, f9, bf_fr_r _ _, bf_fr_u _ _ (by omega) (by omega)⟩
      · refine ⟨(nd', rs', lv - 1 + 1, (40, 0) :: q), ?_, fun g => bf_G_cons (bf_G_tl g) (fun z => absurd z (by decide)) (fun z => absurd z (by decide)), ?_⟩
        · show q.length + 1 ≤ q.length + 1 + 1
          omega
        intro t c w e d h wr l a1 a2 a3 a4 a5 a6 a7 a8 a9 a10 a11 a12 a13 a14 post ht tk hp
        obtain ⟨t8, t9, o1, o2, to⟩ := tk
        have ix : nI t * 16 + nI (q.length + 1) - 1 = nI (t * 16 + q.length) := bf_ix (k := 1) (by omega)
        have hv : vp_in (nI (t * 16 + q.length)) 256 := vp_in_nI (by omega) (by decide)
        have et : (nI (t * 16 + q.length)).toNatClampNeg = t * 16 + q.length := nI_clamp (by omega)
        refine nm_r ix (K ht hl ⟨o1, o2, to⟩ (br_f c14 (br_f c16 (br_t c17 (A ht t8 t9 (fun b8 b9 h8 h9 f8 f9 => br_f h0 ⟨hv, br_f (by rw [et]; exact fun z => hz (o2.symm.trans z)) ⟨hv, nm_r (e' := upd a14 (t * 16 + q.length) 0) (by rw [et]) ?_⟩⟩))))))
        exact hp b8 b9 a13 _ ⟨h8, h9, o1, pk_us, bf_ops_u2 to (Nat.le_refl _)⟩ ⟨f8, f9, bf_fr_r _ _, bf_fr_u _ _ (by omega) (by omega)⟩
  by_cases h0 : r = 0
  · refine ⟨(nd', rs', lv - 1 + 1, (28, 0) :: ops), Nat.le_refl _, fun g => bf_G_cons g (fun z => absurd z (by decide)) (fun z => absurd z (by decide)), ?_⟩
    intro t c w e d h wr l a1 a2 a3 a4 a5 a6 a7 a8 a9 a10 a11 a12 a13 a14 post ht tk hp
    obtain ⟨t8, t9, to⟩ := tk
    refine nm_e (K ht hl to (br_f c14 (br_f c16 (br_f c17 (A ht t8 t9 (fun b8 b9 h8 h9 f8 f9 => br_t h0 ?_))))))
    exact bf_add ht (by omega) to (fun b13 b14 ho f13 f14 => hp b8 b9 b13 b14 ⟨h8, h9, ho⟩ ⟨f8, f9, f13, f14⟩)
  · obtain ⟨v, q, rfl⟩ := hr h0
    have hl' : q.length + 1 ≤ 12 := hl
    refine ⟨(nd', rs', lv - 1 + 1, (42, v &&& 3) :: q), ?_, fun g => bf_G_cons (bf_G_tl g) (fun z => absurd z (by decide)) (fun z => pk_andIn v (m := 3) 2 (by decide) (by decide)), ?_⟩
    · show q.length + 1 ≤ q.length + 1 + 1
      omega
    intro t c w e d h wr l a1 a2 a3 a4 a5 a6 a7 a8 a9 a10 a11 a12 a13 a14 post ht tk hp
    obtain ⟨t8, t9, o1, o2, to⟩ := tk
    have ix : nI t * 16 + nI (q.length + 1) - 1 = nI (t * 16 + q.length) := bf_ix (k := 1) (by omega)
    have hv : vp_in (nI (t * 16 + q.length)) 256 := vp_in_nI (by omega) (by decide)
    have et : (nI (t * 16 + q.length)).toNatClampNeg = t * 16 + q.length := nI_clamp (by omega)
    have ev : a14 (t * 16 + q.length) = v := o2
    refine nm_r ix (K ht hl ⟨o1, o2, to⟩ (br_f c14 (br_f c16 (br_f c17 (A ht t8 t9 (fun b8 b9 h8 h9 f8 f9 => br_f h0 ⟨hv, nm_r (e' := upd a13 (t * 16 + q.length) 42) (by rw [et]) ⟨hv, hv, nm_r (e' := upd a14 (t * 16 + q.length) (v &&& 3)) (by rw [et, ev]) ?_⟩⟩))))))
    exact hp b8 b9 _ _ ⟨h8, h9, pk_us, pk_us, bf_ops_u1 (bf_ops_u2 to (Nat.le_refl _)) (Nat.le_refl _)⟩ ⟨f8, f9, bf_fr_u _ _ (by omega) (by omega), bf_fr_u _ _ (by omega) (by omega)⟩
theorem bf_pla (code nd rs lv : Int32) (ops : List (Int32 × Int32)) (hl : ops.length ≤ 12) (h1 : ¬ code = 41) (h2 : ¬ code = 42) : ∃ T, bf_EX wpX_foldPlaces code nd rs lv ops T := by
  obtain ⟨r, hr, K⟩ := bf_kn2 ops
  by_cases c15 : code = 15
  · obtain ⟨nd', rs', A⟩ := bf_acc 2 2 nd rs lv
    by_cases h0 : r = 0
    · refine ⟨(nd', rs', lv - 2 + 2, (code, 0) :: ops), Nat.le_refl _, fun g => bf_G_cons g (fun z => absurd z h1) (fun z => absurd z h2), ?_⟩
      intro t c w e d h wr l a1 a2 a3 a4 a5 a6 a7 a8 a9 a10 a11 a12 a13 a14 post ht tk hp
      obtain ⟨t8, t9, to⟩ := tk
      refine br_t c15 ?_
      unfold wX_foldPlaces_14
      refine A ht t8 t9 (fun b8 b9 h8 h9 f8 f9 => nm_e (K ht hl to (br_t h0 ?_)))
      exact bf_add ht (by omega) to (fun b13 b14 ho f13 f14 => hp b8 b9 b13 b14 ⟨h8, h9, ho⟩ ⟨f8, f9, f13, f14⟩)
    · obtain ⟨a, b, q, rfl⟩ := hr h0
      have hl' : q.length + 2 ≤ 12 := hl
      refine ⟨(nd', rs', lv - 2 + 2, (40, a) :: (40, b) :: q), ?_, fun g => bf_G_cons (bf_G_cons (bf_G_tl (bf_G_tl g)) (fun z => absurd z (by decide)) (fun z => absurd z (by decide))) (fun z => absurd z (by decide)) (fun z => absurd z (by decide)), ?_⟩
      · show q.length + 2 ≤ q.length + 2 + 1
        omega
      intro t c w e d h wr l a1 a2 a3 a4 a5 a6 a7 a8 a9 a10 a11 a12 a13 a14 post ht tk hp
      obtain ⟨t8, t9, o1, o2, p1, p2, to⟩ := tk
      have ix : nI t * 16 + nI (q.length + 2) - 2 = nI (t * 16 + q.length) := bf_ix (k := 2) (by omega)
      have ix1 : nI (t * 16 + q.length) + 1 = nI (t * 16 + (q.length + 1)) := nI_1 _
      have et : (nI (t * 16 + q.length)).toNatClampNeg = t * 16 + q.length := nI_clamp (by omega)
      have et1 : (nI (t * 16 + q.length) + 1).toNatClampNeg = t * 16 + (q.length + 1) := by rw [ix1]; exact nI_clamp (by omega)
      have hv : vp_in (nI (t * 16 + q.length)) 256 := vp_in_nI (by omega) (by decide)
      have hv1 : vp_in (nI (t * 16 + q.length) + 1) 256 := by rw [ix1]; exact vp_in_nI (by omega) (by decide)
      have ea : a14 (t * 16 + q.length) = a := p2
      have eb : a14 (t * 16 + (q.length + 1)) = b := o2
      refine br_t c15 ?_
      unfold wX_foldPlaces_14
      refine A ht t8 t9 (fun b8 b9 h8 h9 f8 f9 => nm_r ix (K ht hl ⟨o1, o2, p1, p2, to⟩ (br_f h0 (br_t c15 ⟨hv, nm_r (e' := a) (by rw [et, ea]) ⟨hv1, hv, nm_r (e' := upd a14 (t * 16 + q.length) b) (by rw [et, et1, eb]) ⟨hv1, nm_r (e' := upd (upd a14 (t * 16 + q.length) b) (t * 16 + (q.length + 1)) a) (by rw [et1]) ?_⟩⟩⟩))))
      refine hp b8 b9 a13 _ ⟨h8, h9, o1, pk_us, p1, ?_, bf_ops_u2 (bf_ops_u2 to (Nat.le_refl _)) (by omega)⟩ ⟨f8, f9, bf_fr_r _ _, bf_fr_t (bf_fr_u _ _ (by omega) (by omega)) (bf_fr_u _ _ (by omega) (by omega))⟩
      rw [pk_un (by omega), pk_us]
  · obtain ⟨nd', rs', A⟩ := bf_acc 2 1 nd rs lv
    by_cases h0 : r = 0
    · refine ⟨(nd', rs', lv - 2 + 1, (code, 0) :: ops), Nat.le_refl _, fun g => bf_G_cons g (fun z => absurd z h1) (fun z => absurd z h2), ?_⟩
      intro t c w e d h wr l a1 a2 a3 a4 a5 a6 a7 a8 a9 a10 a11 a12 a13 a14 post ht tk hp
      obtain ⟨t8, t9, to⟩ := tk
      refine br_f c15 ?_
      unfold wX_foldPlaces_14
      refine A ht t8 t9 (fun b8 b9 h8 h9 f8 f9 => nm_e (K ht hl to (br_t h0 ?_)))
      exact bf_add ht (by omega) to (fun b13 b14 ho f13 f14 => hp b8 b9 b13 b14 ⟨h8, h9, ho⟩ ⟨f8, f9, f13, f14⟩)
    · obtain ⟨a, b, q, rfl⟩ := hr h0
      have hl' : q.length + 2 ≤ 12 := hl
      have hc : vp_in ((a &&& 7) + (8 * (b &&& 3))) 32 := by
        obtain ⟨k, hk, ek⟩ := bf_cell a b
        rw [ek]
        exact vp_in_nI hk (by decide)
      refine ⟨(nd', rs', lv - 2 + 1, (41, (a &&& 7) + (8 * (b &&& 3))) :: q), ?_, fun g => bf_G_cons (bf_G_tl (bf_G_tl g)) (fun z => hc) (fun z => absurd z (by decide)), ?_⟩
      · show q.length + 1 ≤ q.length + 2 + 1
        omega
      intro t c w e d h wr l a1 a2 a3 a4 a5 a6 a7 a8 a9 a10 a11 a12 a13 a14 post ht tk hp
      obtain ⟨t8, t9, o1, o2, p1, p2, to⟩ := tk
      have ix : nI t * 16 + nI (q.length + 2) - 2 = nI (t * 16 + q.length) := bf_ix (k := 2) (by omega)
      have ix1 : nI (t * 16 + q.length) + 1 = nI (t * 16 + (q.length + 1)) := nI_1 _
      have et : (nI (t * 16 + q.length)).toNatClampNeg = t * 16 + q.length := nI_clamp (by omega)
      have et1 : (nI (t * 16 + q.length) + 1).toNatClampNeg = t * 16 + (q.length + 1) := by rw [ix1]; exact nI_clamp (by omega)
      have hv : vp_in (nI (t * 16 + q.length)) 256 := vp_in_nI (by omega) (by decide)
      have hv1 : vp_in (nI (t * 16 + q.length) + 1) 256 := by rw [ix1]; exact vp_in_nI (by omega) (by decide)
      have ea : a14 (t * 16 + q.length) = a := p2
      have eb : a14 (t * 16 + (q.length + 1)) = b := o2
      refine br_f c15 ?_
      unfold wX_foldPlaces_14
      refine A ht t8 t9 (fun b8 b9 h8 h9 f8 f9 => nm_r ix (K ht hl ⟨o1, o2, p1, p2, to⟩ (br_f h0 (br_f c15 ⟨hv, nm_r (e' := upd a13 (t * 16 + q.length) 41) (by rw [et]) ⟨hv, hv1, hv, nm_r (e' := upd a14 (t * 16 + q.length) ((a &&& 7) + (8 * (b &&& 3)))) (by rw [et, et1, ea, eb]) (nm_r (nI_pred (q.length + 1)) ?_)⟩⟩))))
      exact hp b8 b9 _ _ ⟨h8, h9, pk_us, pk_us, bf_ops_u1 (bf_ops_u2 to (Nat.le_refl _)) (Nat.le_refl _)⟩ ⟨f8, f9, bf_fr_u _ _ (by omega) (by omega), bf_fr_u _ _ (by omega) (by omega)⟩
theorem bf_e50 (code nd rs lv : Int32) (ops : List (Int32 × Int32)) (hl : ops.length ≤ 12) : ∃ T, bf_EX (fun post u p0 p1 => match u with | (c, w, e, d, h, wr, l, ma, lv, a1, a2, a3, a4, a5, a6, a7, a8, a9, a10, a11, a12, a13, a14) => wX_enter_50 post p0 p1 c w e d h wr l ma lv a1 a2 a3 a4 a5 a6 a7 a8 a9 a10 a11 a12 a13 a14) code nd rs lv ops T := by
  by_cases c14 : code = 14
  · obtain ⟨T, e1, e2, H⟩ := bf_one code nd rs lv ops hl
    refine ⟨T, e1, e2, ?_⟩
    intro t c w e d h wr l a1 a2 a3 a4 a5 a6 a7 a8 a9 a10 a11 a12 a13 a14 post ht tk hp
    refine br_t c14 ?_
    unfold wX_enter_74
    exact H ht tk hp
  by_cases c16 : code = 16
  · obtain ⟨T, e1, e2, H⟩ := bf_one code nd rs lv ops hl
    refine ⟨T, e1, e2, ?_⟩
    intro t c w e d h wr l a1 a2 a3 a4 a5 a6 a7 a8 a9 a10 a11 a12 a13 a14 post ht tk hp
    refine br_f c14 (br_t c16 ?_)
    unfold wX_enter_74
    exact H ht tk hp
  by_cases c17 : code = 17
  · obtain ⟨T, e1, e2, H⟩ := bf_one code nd rs lv ops hl
    refine ⟨T, e1, e2, ?_⟩
    intro t c w e d h wr l a1 a2 a3 a4 a5 a6 a7 a8 a9 a10 a11 a12 a13 a14 post ht tk hp
    refine br_f c14 (br_f c16 (br_t c17 ?_))
    unfold wX_enter_74
    exact H ht tk hp
  by_cases c28 : code = 28
  · obtain ⟨T, e1, e2, H⟩ := bf_one code nd rs lv ops hl
    refine ⟨T, e1, e2, ?_⟩
    intro t c w e d h wr l a1 a2 a3 a4 a5 a6 a7 a8 a9 a10 a11 a12 a13 a14 post ht tk hp
    refine br_f c14 (br_f c16 (br_f c17 (br_t c28 ?_)))
    unfold wX_enter_74
    exact H ht tk hp
  by_cases c15 : code = 15
  · obtain ⟨T, e1, e2, H⟩ := bf_pla code nd rs lv ops hl (by rw [c15]; decide) (by rw [c15]; decide)
    refine ⟨T, e1, e2, ?_⟩
    intro t c w e d h wr l a1 a2 a3 a4 a5 a6 a7 a8 a9 a10 a11 a12 a13 a14 post ht tk hp
    refine br_f c14 (br_f c16 (br_f c17 (br_f c28 (br_t c15 ?_))))
    unfold wX_enter_95
    exact H ht tk hp
  by_cases c27 : code = 27
  · obtain ⟨T, e1, e2, H⟩ := bf_pla code nd rs lv ops hl (by rw [c27]; decide) (by rw [c27]; decide)
    refine ⟨T, e1, e2, ?_⟩
    intro t c w e d h wr l a1 a2 a3 a4 a5 a6 a7 a8 a9 a10 a11 a12 a13 a14 post ht tk hp
    refine br_f c14 (br_f c16 (br_f c17 (br_f c28 (br_f c15 (br_t c27 ?_)))))
    unfold wX_enter_95
    exact H ht tk hp
  refine ⟨(nd, rs, lv, ops), Nat.le_succ _, fun g => g, ?_⟩
  intro t c w e d h wr l a1 a2 a3 a4 a5 a6 a7 a8 a9 a10 a11 a12 a13 a14 post ht tk hp
  exact br_f c14 (br_f c16 (br_f c17 (br_f c28 (br_f c15 (br_f c27 (hp a8 a9 a13 a14 tk ⟨bf_f1_r _ _, bf_f1_r _ _, bf_fr_r _ _, bf_fr_r _ _⟩))))))
theorem bf_e29 (code nd rs lv : Int32) (ops : List (Int32 × Int32)) (hl : ops.length ≤ 12) : ∃ T, bf_EX (fun post u p0 p1 => match u with | (c, w, e, d, h, wr, l, ma, lv, a1, a2, a3, a4, a5, a6, a7, a8, a9, a10, a11, a12, a13, a14) => wX_enter_29 post p0 p1 c w e d h wr l ma lv a1 a2 a3 a4 a5 a6 a7 a8 a9 a10 a11 a12 a13 a14) code nd rs lv ops T := by
  by_cases hA : code < 10
  · obtain ⟨T, e1, e2, H⟩ := bf_e50 code nd rs lv ops hl
    refine ⟨T, e1, e2, ?_⟩
    intro t c w e d h wr l a1 a2 a3 a4 a5 a6 a7 a8 a9 a10 a11 a12 a13 a14 post ht tk hp
    exact br_t hA (H ht tk hp)
  by_cases hB : 13 < code
  · obtain ⟨T, e1, e2, H⟩ := bf_e50 code nd rs lv ops hl
    refine ⟨T, e1, e2, ?_⟩
    intro t c w e d h wr l a1 a2 a3 a4 a5 a6 a7 a8 a9 a10 a11 a12 a13 a14 post ht tk hp
    exact br_f hA (br_t hB (H ht tk hp))
  · obtain ⟨T, e1, e2, H⟩ := bf_two code nd rs lv ops hl (fun z => hB (by rw [z]; decide)) (fun z => hB (by rw [z]; decide))
    refine ⟨T, e1, e2, ?_⟩
    intro t c w e d h wr l a1 a2 a3 a4 a5 a6 a7 a8 a9 a10 a11 a12 a13 a14 post ht tk hp
    exact br_f hA (br_f hB (H ht tk hp))
theorem bf_enter (code nd rs lv : Int32) (ops : List (Int32 × Int32)) (hl : ops.length ≤ 12) : ∃ T, bf_EX wpX_enter code nd rs lv ops T := by
  by_cases hA : code < 1
  · obtain ⟨T, e1, e2, H⟩ := bf_e29 code nd rs lv ops hl
    refine ⟨T, e1, e2, ?_⟩
    intro t c w e d h wr l a1 a2 a3 a4 a5 a6 a7 a8 a9 a10 a11 a12 a13 a14 post ht tk hp
    exact br_t hA (H ht tk hp)
  by_cases hB : 9 < code
  · obtain ⟨T, e1, e2, H⟩ := bf_e29 code nd rs lv ops hl
    refine ⟨T, e1, e2, ?_⟩
    intro t c w e d h wr l a1 a2 a3 a4 a5 a6 a7 a8 a9 a10 a11 a12 a13 a14 post ht tk hp
    exact br_f hA (br_t hB (H ht tk hp))
  · obtain ⟨nd', rs', A⟩ := bf_acc 0 1 nd rs lv
    refine ⟨(nd', rs', lv - 0 + 1, (40, code) :: ops), Nat.le_refl _, fun g => bf_G_cons g (fun z => absurd z (by decide)) (fun z => absurd z (by decide)), ?_⟩
    intro t c w e d h wr l a1 a2 a3 a4 a5 a6 a7 a8 a9 a10 a11 a12 a13 a14 post ht tk hp
    obtain ⟨t8, t9, to⟩ := tk
    refine br_f hA (br_f hB (A ht t8 t9 (fun b8 b9 h8 h9 f8 f9 => ?_)))
    exact bf_add ht (by omega) to (fun b13 b14 ho f13 f14 => hp b8 b9 b13 b14 ⟨h8, h9, ho⟩ ⟨f8, f9, f13, f14⟩)
theorem bf_enterAll : ∃ E : Int32 → bf_TT → bf_TT, ∀ (code : Int32) (T : bf_TT), T.2.2.2.length ≤ 12 → bf_EX wpX_enter code T.1 T.2.1 T.2.2.1 T.2.2.2 (E code T) := by
  have h : ∀ (code : Int32) (T : bf_TT), ∃ T' : bf_TT, T.2.2.2.length ≤ 12 → bf_EX wpX_enter code T.1 T.2.1 T.2.2.1 T.2.2.2 T' := by
    intro code T
    by_cases hl : T.2.2.2.length ≤ 12
    · obtain ⟨T', H⟩ := bf_enter code T.1 T.2.1 T.2.2.1 T.2.2.2 hl
      exact ⟨T', fun _ => H⟩
    · exact ⟨T, fun z => absurd z hl⟩
  exact ⟨fun code T => Classical.choose (h code T), fun code T => Classical.choose_spec (h code T)⟩
noncomputable def bf_E : Int32 → bf_TT → bf_TT := Classical.choose bf_enterAll
theorem bf_E_ok (code : Int32) (T : bf_TT) (hl : T.2.2.2.length ≤ 12) : bf_EX wpX_enter code T.1 T.2.1 T.2.2.1 T.2.2.2 (bf_E code T) := Classical.choose_spec bf_enterAll code T hl
end
section
/-! ===== following a trace, pure ===== -/
def bf_brk (x : Int32) : Int32 := if x = 22 then 1 else if x = 23 then 1 else if x = 25 then 1 else if x = 26 then 1 else if x = 29 then 1 else 0
theorem bf_breaks {c w e d h wr l ma lv : Int32} {a1 a2 a3 a4 a5 a6 a7 a8 a9 a10 a11 a12 a13 a14 : Nat → Int32} {post : Int32 → Prop} {x : Int32} (hp : post (bf_brk x)) : wpX_breaks post (c, w, e, d, h, wr, l, ma, lv, a1, a2, a3, a4, a5, a6, a7, a8, a9, a10, a11, a12, a13, a14) x := by
  unfold bf_brk at hp
  by_cases h1 : x = 22
  · rw [if_pos h1] at hp
    exact br_t h1 hp
  rw [if_neg h1] at hp
  by_cases h2 : x = 23
  · rw [if_pos h2] at hp
    exact br_f h1 (br_t h2 hp)
  rw [if_neg h2] at hp
  by_cases h3 : x = 25
  · rw [if_pos h3] at hp
    exact br_f h1 (br_f h2 (br_t h3 hp))
  rw [if_neg h3] at hp
  by_cases h4 : x = 26
  · rw [if_pos h4] at hp
    exact br_f h1 (br_f h2 (br_f h3 (br_t h4 hp)))
  rw [if_neg h4] at hp
  by_cases h5 : x = 29
  · rw [if_pos h5] at hp
    exact br_f h1 (br_f h2 (br_f h3 (br_f h4 (br_t h5 hp))))
  rw [if_neg h5] at hp
  exact br_f h1 (br_f h2 (br_f h3 (br_f h4 (br_f h5 hp))))
theorem bf_turn4 {x : Int32} (h1 : ¬ x < 18) (h2 : ¬ 21 < x) : ∃ j : Nat, j < 4 ∧ x - 18 = nI j ∧ (x - 18).toNatClampNeg = j := by
  have h0 : ¬ x < 0 := fun z => h1 (Int32.lt_trans z (by decide))
  obtain ⟨j, hj, ej⟩ := nI_of2 (M := 21) (n := 21) (by decide) h0 (Int32.not_lt.mp h2)
  subst ej
  have h3 : 18 ≤ j := by
    rcases Nat.lt_or_ge j 18 with z | z
    · exact absurd (nI_lt (b := 18) z (by decide)) h1
    · exact z
  have e : nI j - 18 = nI (j - 18) := pk_sub (b := 18) h3
  exact ⟨j - 18, by omega, e, by rw [e]; exact nI_clamp (by omega)⟩
noncomputable def bf_nx2 (x : Int32) (p q : Nat) (T : bf_TT) : Nat × Nat × bf_TT :=
  if x = 24 then (bf_mv (bf_mv p q) q, q, T) else (bf_mv p q, q, bf_E x T)
noncomputable def bf_nx (x : Int32) (p q : Nat) (T : bf_TT) : Nat × Nat × bf_TT :=
  if x < 18 then bf_nx2 x p q T else if 21 < x then bf_nx2 x p q T else (bf_mv p (x - 18).toNatClampNeg, (x - 18).toNatClampNeg, T)
theorem bf_nx2_ok (x : Int32) {p q : Nat} {T : bf_TT} (hp : p < 32) (hq : q < 4) (hl : T.2.2.2.length ≤ 12) (hG : bf_G T.2.2.2) :
    (bf_nx2 x p q T).1 < 32 ∧ (bf_nx2 x p q T).2.1 < 4 ∧ (bf_nx2 x p q T).2.2.2.2.2.length ≤ T.2.2.2.length + 1 ∧ bf_G (bf_nx2 x p q T).2.2.2.2.2 := by
  unfold bf_nx2
  by_cases hx : x = 24
  · rw [if_pos hx]
    exact ⟨(bf_mv_ok _ (bf_mv_ok p hp q hq).2 q hq).2, hq, Nat.le_succ _, hG⟩
  · rw [if_neg hx]
    obtain ⟨e1, e2, H⟩ := bf_E_ok x T hl
    exact ⟨(bf_mv_ok p hp q hq).2, hq, e1, e2 hG⟩
theorem bf_nx_ok (x : Int32) {p q : Nat} {T : bf_TT} (hp : p < 32) (hq : q < 4) (hl : T.2.2.2.length ≤ 12) (hG : bf_G T.2.2.2) :
    (bf_nx x p q T).1 < 32 ∧ (bf_nx x p q T).2.1 < 4 ∧ (bf_nx x p q T).2.2.2.2.2.length ≤ T.2.2.2.length + 1 ∧ bf_G (bf_nx x p q T).2.2.2.2.2 := by
  unfold bf_nx
  by_cases h1 : x < 18
  · rw [if_pos h1]
    exact bf_nx2_ok x hp hq hl hG
  rw [if_neg h1]
  by_cases h2 : 21 < x
  · rw [if_pos h2]
    exact bf_nx2_ok x hp hq hl hG
  rw [if_neg h2]
  obtain ⟨j, hj, e1, e2⟩ := bf_turn4 h1 h2
  rw [e2]
  exact ⟨(bf_mv_ok p hp j hj).2, hj, Nat.le_succ _, hG⟩
/-- a trace: over, steps, where it leads (cell, way), need, rise, level, operations -/
abbrev bf_TR : Type := Int32 × Nat × Nat × Nat × bf_TT
noncomputable def bf_fol (g : Nat → Int32) : Nat → Nat → Nat → Nat → Int32 → bf_TT → bf_TR
  | 0, p, q, n, ov, T => (ov ||| ((1 : Int32) <<< (nI p &&& 31)), n, p, q, T)
  | k + 1, p, q, n, ov, T =>
    if bf_brk (g p) = 0 then bf_fol g k (bf_nx (g p) p q T).1 (bf_nx (g p) p q T).2.1 (n + 1) (ov ||| ((1 : Int32) <<< (nI p &&& 31))) (bf_nx (g p) p q T).2.2
    else (ov ||| ((1 : Int32) <<< (nI p &&& 31)), n, p, q, T)
theorem bf_fol_go {g : Nat → Int32} {k p q n : Nat} {ov : Int32} {T : bf_TT} (hb : bf_brk (g p) = 0) :
    bf_fol g (k + 1) p q n ov T = bf_fol g k (bf_nx (g p) p q T).1 (bf_nx (g p) p q T).2.1 (n + 1) (ov ||| ((1 : Int32) <<< (nI p &&& 31))) (bf_nx (g p) p q T).2.2 := by
  rw [bf_fol, if_pos hb]
theorem bf_fol_no {g : Nat → Int32} {k p q n : Nat} {ov : Int32} {T : bf_TT} (hb : ¬ bf_brk (g p) = 0) :
    bf_fol g (k + 1) p q n ov T = (ov ||| ((1 : Int32) <<< (nI p &&& 31)), n, p, q, T) := by
  rw [bf_fol, if_neg hb]
theorem bf_fol_0 {g : Nat → Int32} {p q n : Nat} {ov : Int32} {T : bf_TT} :
    bf_fol g 0 p q n ov T = (ov ||| ((1 : Int32) <<< (nI p &&& 31)), n, p, q, T) := by
  rw [bf_fol]
theorem bf_fol_mono {g : Nat → Int32} {m : Nat} (hm : m < 32) : ∀ (k p q n : Nat) (ov : Int32) (T : bf_TT), bf_bit ov m → bf_bit (bf_fol g k p q n ov T).1 m := by
  intro k
  induction k with
  | zero =>
    intro p q n ov T h
    rw [bf_fol_0]
    exact bf_bit_or _ hm h
  | succ k ih =>
    intro p q n ov T h
    by_cases hb : bf_brk (g p) = 0
    · rw [bf_fol_go hb]
      exact ih _ _ _ _ _ (bf_bit_or _ hm h)
    · rw [bf_fol_no hb]
      exact bf_bit_or _ hm h
theorem bf_fol_self {g : Nat → Int32} {k p q n : Nat} {ov : Int32} {T : bf_TT} (hp : p < 32) : bf_bit (bf_fol g k p q n ov T).1 p := by
  cases k with
  | zero =>
    rw [bf_fol_0]
    exact bf_bit_set _ hp
  | succ k =>
    by_cases hb : bf_brk (g p) = 0
    · rw [bf_fol_go hb]
      exact bf_fol_mono hp _ _ _ _ _ _ (bf_bit_set _ hp)
    · rw [bf_fol_no hb]
      exact bf_bit_set _ hp
/-- a grid changed at a cell that the trace does not lie over: the same trace -/
theorem bf_fol_loc {g g' : Nat → Int32} {m : Nat} (hg : ∀ j, j ≠ m → g' j = g j) : ∀ (k p q n : Nat) (ov : Int32) (T : bf_TT), p < 32 → q < 4 → T.2.2.2.length + k ≤ 12 → bf_G T.2.2.2 →
    ¬ bf_bit (bf_fol g k p q n ov T).1 m → bf_fol g' k p q n ov T = bf_fol g k p q n ov T := by
  intro k
  induction k with
  | zero =>
    intro p q n ov T hp hq hl hG h
    rw [bf_fol_0, bf_fol_0]
  | succ k ih =>
    intro p q n ov T hp hq hl hG h
    by_cases e : p = m
    · subst e
      exact absurd (bf_fol_self hp) h
    · have eg : g' p = g p := hg p e
      by_cases hb : bf_brk (g p) = 0
      · have hb' : bf_brk (g' p) = 0 := by rw [eg]; exact hb
        rw [bf_fol_go hb] at h
        rw [bf_fol_go hb, bf_fol_go hb', eg]
        obtain ⟨n1, n2, n3, n4⟩ := bf_nx_ok (g p) hp hq (T := T) (by omega) hG
        exact ih _ _ _ _ _ n1 n2 (by omega) n4 h
      · have hb' : ¬ bf_brk (g' p) = 0 := by rw [eg]; exact hb
        rw [bf_fol_no hb, bf_fol_no hb']
theorem bf_fol_ok {g : Nat → Int32} : ∀ (k p q n : Nat) (ov : Int32) (T : bf_TT), p < 32 → q < 4 → T.2.2.2.length + k ≤ 12 → bf_G T.2.2.2 →
    (bf_fol g k p q n ov T).2.1 ≤ n + k ∧ (bf_fol g k p q n ov T).2.2.1 < 32 ∧ (bf_fol g k p q n ov T).2.2.2.1 < 4 ∧ (bf_fol g k p q n ov T).2.2.2.2.2.2.2.length ≤ 12 ∧ bf_G (bf_fol g k p q n ov T).2.2.2.2.2.2.2 := by
  intro k
  induction k with
  | zero =>
    intro p q n ov T hp hq hl hG
    rw [bf_fol_0]
    exact ⟨Nat.le_refl _, hp, hq, hl, hG⟩
  | succ k ih =>
    intro p q n ov T hp hq hl hG
    by_cases hb : bf_brk (g p) = 0
    · rw [bf_fol_go hb]
      obtain ⟨n1, n2, n3, n4⟩ := bf_nx_ok (g p) hp hq (T := T) (by omega) hG
      obtain ⟨i1, i2, i3, i4, i5⟩ := ih _ _ (n + 1) (ov ||| ((1 : Int32) <<< (nI p &&& 31))) _ n1 n2 (by omega) n4
      exact ⟨by omega, i2, i3, i4, i5⟩
    · rw [bf_fol_no hb]
      exact ⟨Nat.le_add_right _ _, hp, hq, show T.2.2.2.length ≤ 12 by omega, hG⟩
noncomputable def bf_tr0 (g : Nat → Int32) (p q : Nat) : bf_TR := bf_fol g 12 p q 0 0 (0, 0, 0, [])
theorem bf_tr0_ok (g : Nat → Int32) {p q : Nat} (hp : p < 32) (hq : q < 4) : (bf_tr0 g p q).2.1 ≤ 12 ∧ (bf_tr0 g p q).2.2.1 < 32 ∧ (bf_tr0 g p q).2.2.2.1 < 4 ∧ (bf_tr0 g p q).2.2.2.2.2.2.2.length ≤ 12 ∧ bf_G (bf_tr0 g p q).2.2.2.2.2.2.2 := by
  have hG : bf_G [] := fun x hx => absurd hx List.not_mem_nil
  have h := bf_fol_ok (g := g) 12 p q 0 0 (0, 0, 0, []) hp hq (Nat.le_refl _) hG
  rw [Nat.zero_add] at h
  exact h
theorem bf_tr0_loc {g g' : Nat → Int32} {m p q : Nat} (hg : ∀ j, j ≠ m → g' j = g j) (hp : p < 32) (hq : q < 4) (h : ¬ bf_bit (bf_tr0 g p q).1 m) : bf_tr0 g' p q = bf_tr0 g p q :=
  bf_fol_loc hg 12 p q 0 0 (0, 0, 0, []) hp hq (Nat.le_refl _) (fun x hx => absurd hx List.not_mem_nil) h

/-! ===== the cache of traces ===== -/
/-- trace R lies at place t -/
def bf_tr (t : Nat) (R : bf_TR) (a6 a7 a8 a9 a10 a11 a12 a13 a14 : Nat → Int32) : Prop :=
  a6 t = R.1 ∧ a7 t = nI R.2.1 ∧ a10 t = nI R.2.2.1 ∧ a11 t = nI R.2.2.2.1 ∧ a12 t = nI R.2.2.2.2.2.2.2.length ∧ bf_tk t R.2.2.2.2.1 R.2.2.2.2.2.1 R.2.2.2.2.2.2.2 a8 a9 a13 a14
def bf_f9 (t : Nat) (b6 b7 b8 b9 b10 b11 b12 b13 b14 a6 a7 a8 a9 a10 a11 a12 a13 a14 : Nat → Int32) : Prop :=
  bf_f1 t b6 a6 ∧ bf_f1 t b7 a7 ∧ bf_f1 t b8 a8 ∧ bf_f1 t b9 a9 ∧ bf_f1 t b10 a10 ∧ bf_f1 t b11 a11 ∧ bf_f1 t b12 a12 ∧ bf_fr t b13 a13 ∧ bf_fr t b14 a14
theorem bf_tr_fr {t t' : Nat} {R : bf_TR} {b6 b7 b8 b9 b10 b11 b12 b13 b14 a6 a7 a8 a9 a10 a11 a12 a13 a14 : Nat → Int32} (h : bf_tr t' R a6 a7 a8 a9 a10 a11 a12 a13 a14) (hl : R.2.2.2.2.2.2.2.length ≤ 16) (ht : t' ≠ t)
    (f : bf_f9 t b6 b7 b8 b9 b10 b11 b12 b13 b14 a6 a7 a8 a9 a10 a11 a12 a13 a14) : bf_tr t' R b6 b7 b8 b9 b10 b11 b12 b13 b14 := by
  obtain ⟨h6, h7, h10, h11, h12, h8, h9, ho⟩ := h
  obtain ⟨f6, f7, f8, f9, f10, f11, f12, f13, f14⟩ := f
  exact ⟨(f6 t' ht).trans h6, (f7 t' ht).trans h7, (f10 t' ht).trans h10, (f11 t' ht).trans h11, (f12 t' ht).trans h12, (f8 t' ht).trans h8, (f9 t' ht).trans h9, bf_ops_fr ho hl ht f13 f14⟩
/-- every stored trace is what following the grid g gives now -/
def bf_cv (g a5 a6 a7 a8 a9 a10 a11 a12 a13 a14 : Nat → Int32) : Prop :=
  ∀ t p q : Nat, t < 16 → p < 32 → q < 4 → a5 t = nI (p + 32 * q) → bf_tr t (bf_tr0 g p q) a6 a7 a8 a9 a10 a11 a12 a13 a14

/-! ===== the walk of follow ===== -/
theorem bf_f172 {t p q n : Nat} {ov : Int32} {c w e d h wr l ma lv : Int32} {a1 a2 a3 a4 a5 a6 a7 a8 a9 a10 a11 a12 a13 a14 : Nat → Int32} {post : St1 → Prop} (ht : t < 16) (e6 : a6 t = ov)
    (hp : post (c, w, e, d, h, wr, l, ma, lv, a1, a2, a3, a4, a5, upd a6 t (ov ||| ((1 : Int32) <<< (nI p &&& 31))), upd a7 t (nI n), a8, a9, upd a10 t (nI p), upd a11 t (nI q), upd a12 t ma, a13, a14)) :
    wX_follow_172 post (nI t) (nI p) (nI q) (nI n) c w e d h wr l ma lv a1 a2 a3 a4 a5 a6 a7 a8 a9 a10 a11 a12 a13 a14 := by
  have et : (nI t).toNatClampNeg = t := nI_clamp (by omega)
  have hv : vp_in (nI t) 16 := vp_in_nI ht (by decide)
  unfold wX_follow_172
  rw [et, e6]
  exact ⟨hv, hv, nm_e ⟨hv, nm_e ⟨hv, nm_e ⟨hv, nm_e ⟨hv, nm_e hp⟩⟩⟩⟩⟩
theorem bf_f153 {p q i : Nat} {x1 : Int32} {c w e d h wr l ma lv : Int32} {a1 a2 a3 a4 a5 a6 a7 a8 a9 a10 a11 a12 a13 a14 : Nat → Int32} {post : St1 → Prop} {J : Int32 → Int32 → Int32 → Int32 → Int32 → Int32 → Int32 → Int32 → Int32 → Int32 → Int32 → Int32 → Int32 → (Nat → Int32) → (Nat → Int32) → (Nat → Int32) → (Nat → Int32) → (Nat → Int32) → (Nat → Int32) → (Nat → Int32) → (Nat → Int32) → (Nat → Int32) → (Nat → Int32) → (Nat → Int32) → (Nat → Int32) → (Nat → Int32) → (Nat → Int32) → Prop}
    (hp : p < 32) (hq : q < 4) (hJ : J (nI (bf_mv p q)) (nI q) (nI (i + 1)) (nI (i + 1)) c w e d h wr l ma lv a1 a2 a3 a4 a5 a6 a7 a8 a9 a10 a11 a12 a13 a14) :
    wX_follow_153 post J x1 (nI p) (nI q) (nI i) (nI i) c w e d h wr l ma lv a1 a2 a3 a4 a5 a6 a7 a8 a9 a10 a11 a12 a13 a14 := by
  unfold wX_follow_153
  exact bf_moved hp hq (nm_r (nI_1 i) (nm_r (nI_1 i) hJ))
theorem bf_fl (g : Nat → Int32) : ∀ (k i p q : Nat) (ov : Int32) (T : bf_TT), k + i = 12 → p < 32 → q < 4 → T.2.2.2.length ≤ i → bf_G T.2.2.2 →
    ∀ ⦃t : Nat⦄ ⦃c w e d h wr l : Int32⦄ ⦃a2 a3 a4 a5 a6 a7 a8 a9 a10 a11 a12 a13 a14 : Nat → Int32⦄ ⦃post : St1 → Prop⦄, t < 16 → a6 t = ov → bf_tk t T.1 T.2.1 T.2.2.2 a8 a9 a13 a14 →
    (∀ (ma lv : Int32) (b6 b7 b8 b9 b10 b11 b12 b13 b14 : Nat → Int32), bf_tr t (bf_fol g k p q i ov T) b6 b7 b8 b9 b10 b11 b12 b13 b14 →
      bf_f9 t b6 b7 b8 b9 b10 b11 b12 b13 b14 a6 a7 a8 a9 a10 a11 a12 a13 a14 → post (c, w, e, d, h, wr, l, ma, lv, g, a2, a3, a4, a5, b6, b7, b8, b9, b10, b11, b12, b13, b14)) →
    wX_follow_55 post (nI t) (k + 1) (nI p) (nI q) (nI i) (nI i) c w e d h wr l (nI T.2.2.2.length) T.2.2.1 g a2 a3 a4 a5 a6 a7 a8 a9 a10 a11 a12 a13 a14 := by
  intro k
  induction k with
  | zero =>
    intro i p q ov T hi hp hq hl hG t c w e d h wr l a2 a3 a4 a5 a6 a7 a8 a9 a10 a11 a12 a13 a14 post ht e6 tk hpost
    have hi' : i = 12 := by omega
    subst hi'
    refine br_t (nI_le (a := 12) (Nat.le_refl 12) (by decide)) (bf_f172 ht e6 ?_)
    refine hpost _ _ _ _ _ _ _ _ _ _ _ ?_ ⟨bf_f1_u _ _ _, bf_f1_u _ _ _, bf_f1_r _ _, bf_f1_r _ _, bf_f1_u _ _ _, bf_f1_u _ _ _, bf_f1_u _ _ _, bf_fr_r _ _, bf_fr_r _ _⟩
    rw [bf_fol_0]
    exact ⟨pk_us, pk_us, pk_us, pk_us, pk_us, tk⟩
  | succ k ih =>
    intro i p q ov T hi hp hq hl hG t c w e d h wr l a2 a3 a4 a5 a6 a7 a8 a9 a10 a11 a12 a13 a14 post ht e6 tk hpost
    have et : (nI t).toNatClampNeg = t := nI_clamp (by omega)
    have ep : (nI p).toNatClampNeg = p := nI_clamp (by omega)
    have hv : vp_in (nI t) 16 := vp_in_nI ht (by decide)
    have hvp : vp_in (nI p) 32 := vp_in_nI hp (by decide)
    have hmv := bf_mv_ok p hp q hq
    refine br_f (nI_ge (b := 12) (by omega) (by decide)) ⟨hvp, ?_⟩
    rw [ep]
    refine bf_breaks ?_
    by_cases hb : bf_brk (g p) = 0
    · rw [bf_fol_go hb] at hpost
      refine br_t hb ⟨hvp, nm_e ⟨hv, hv, nm_r (e' := upd a6 t (ov ||| ((1 : Int32) <<< (nI p &&& 31)))) (by rw [et, e6]) ?_⟩⟩
      have W126 : (bf_nx (g p) p q T = bf_nx2 (g p) p q T) → wX_follow_126 post (wX_follow_55 post (nI t) (k + 1)) (nI t) (nI p) (nI q) (nI i) (nI i) (g p) c w e d h wr l (nI T.2.2.2.length) T.2.2.1 g a2 a3 a4 a5 (upd a6 t (ov ||| ((1 : Int32) <<< (nI p &&& 31)))) a7 a8 a9 a10 a11 a12 a13 a14 := by
        intro en
        rw [en] at hpost
        unfold bf_nx2 at hpost
        by_cases h24 : g p = 24
        · rw [if_pos h24] at hpost
          refine br_t h24 (bf_moved hp hq (bf_f153 hmv.2 hq ?_))
          refine ih (i + 1) _ q _ T (by omega) (bf_mv_ok _ hmv.2 q hq).2 hq (by omega) hG ht pk_us tk (fun ma lv b6 b7 b8 b9 b10 b11 b12 b13 b14 htr f => ?_)
          obtain ⟨f6, ff⟩ := f
          exact hpost ma lv b6 b7 b8 b9 b10 b11 b12 b13 b14 htr ⟨bf_f1_t f6 (bf_f1_u _ _ _), ff⟩
        · rw [if_neg h24] at hpost
          obtain ⟨x1, x2, H⟩ := bf_E_ok (g p) T (by omega)
          refine br_f h24 (H ht tk (fun b8 b9 b13 b14 tk' f4 => ?_))
          obtain ⟨g8, g9, g13, g14⟩ := f4
          refine bf_f153 hp hq ?_
          refine ih (i + 1) _ q _ (bf_E (g p) T) (by omega) hmv.2 hq (by omega) (x2 hG) ht pk_us tk' (fun ma lv d6 d7 d8 d9 d10 d11 d12 d13 d14 htr f => ?_)
          obtain ⟨f6, f7, f8, f9, f10, f11, f12, f13, f14⟩ := f
          exact hpost ma lv d6 d7 d8 d9 d10 d11 d12 d13 d14 htr ⟨bf_f1_t f6 (bf_f1_u _ _ _), f7, bf_f1_t f8 g8, bf_f1_t f9 g9, f10, f11, f12, bf_fr_t f13 g13, bf_fr_t f14 g14⟩
      by_cases h1 : g p < 18
      · exact br_t h1 (W126 (by unfold bf_nx; rw [if_pos h1]))
      refine br_f h1 ?_
      by_cases h2 : 21 < g p
      · exact br_t h2 (W126 (by unfold bf_nx; rw [if_neg h1, if_pos h2]))
      obtain ⟨j, hj, e1, e2⟩ := bf_turn4 h1 h2
      have en : bf_nx (g p) p q T = (bf_mv p j, j, T) := by
        unfold bf_nx
        rw [if_neg h1, if_neg h2, e2]
      rw [en] at hpost
      refine br_f h2 (nm_r e1 (bf_f153 hp hj ?_))
      refine ih (i + 1) _ j _ T (by omega) (bf_mv_ok p hp j hj).2 hj (by omega) hG ht pk_us tk (fun ma lv b6 b7 b8 b9 b10 b11 b12 b13 b14 htr f => ?_)
      obtain ⟨f6, ff⟩ := f
      exact hpost ma lv b6 b7 b8 b9 b10 b11 b12 b13 b14 htr ⟨bf_f1_t f6 (bf_f1_u _ _ _), ff⟩
    · rw [bf_fol_no hb] at hpost
      refine br_f hb (bf_f172 ht e6 ?_)
      exact hpost _ _ _ _ _ _ _ _ _ _ _ ⟨pk_us, pk_us, pk_us, pk_us, pk_us, tk⟩ ⟨bf_f1_u _ _ _, bf_f1_u _ _ _, bf_f1_r _ _, bf_f1_r _ _, bf_f1_u _ _ _, bf_f1_u _ _ _, bf_f1_u _ _ _, bf_fr_r _ _, bf_fr_r _ _⟩
theorem bf_key (p q : Nat) : nI p + 32 * nI q = nI (p + 32 * q) := by
  show nI p + nI 32 * nI q = _
  rw [pk_mul, nI_add]
theorem bf_here {g : Nat → Int32} {p q : Nat} {e d h wr l ma lv : Int32} {a2 a3 a4 a5 a6 a7 a8 a9 a10 a11 a12 a13 a14 : Nat → Int32} {post : Int32 → St1 → Prop} (hp : p < 32) (hq : q < 4) (hcv : bf_cv g a5 a6 a7 a8 a9 a10 a11 a12 a13 a14)
    (hpost : ∀ (t : Nat) (ma lv : Int32) (b5 b6 b7 b8 b9 b10 b11 b12 b13 b14 : Nat → Int32), t < 16 → bf_tr t (bf_tr0 g p q) b6 b7 b8 b9 b10 b11 b12 b13 b14 → bf_cv g b5 b6 b7 b8 b9 b10 b11 b12 b13 b14 →
      post (nI t) (nI p, nI q, e, d, h, wr, l, ma, lv, g, a2, a3, a4, b5, b6, b7, b8, b9, b10, b11, b12, b13, b14)) :
    wpX_traceHere post (nI p, nI q, e, d, h, wr, l, ma, lv, g, a2, a3, a4, a5, a6, a7, a8, a9, a10, a11, a12, a13, a14) := by
  obtain ⟨t, ht', et'⟩ := pk_andE (nI p ^^^ (nI q * 5)) (m := 15) 4 (by decide)
  have ht : t < 16 := ht'
  have et : (nI t).toNatClampNeg = t := nI_clamp (by omega)
  have hv : vp_in (nI t) 16 := vp_in_nI ht (by decide)
  refine nm_r (bf_key p q) (nm_r et' ⟨hv, ?_⟩)
  rw [et]
  by_cases hk : a5 t = nI (p + 32 * q)
  · exact br_t hk (hpost t _ _ _ _ _ _ _ _ _ _ _ _ ht (hcv t p q ht hp hq hk) hcv)
  refine br_f hk ?_
  unfold wpX_follow
  dsimp only
  rw [et, bf_key]
  refine ⟨hv, nm_e ⟨hv, nm_e ⟨hv, nm_e ⟨hv, nm_e ⟨12 + 1, ?_⟩⟩⟩⟩⟩
  have hG : bf_G [] := fun x hx => absurd hx List.not_mem_nil
  refine bf_fl g 12 0 p q 0 (0, 0, 0, []) rfl hp hq (Nat.le_refl _) hG ht pk_us ⟨pk_us, pk_us, trivial⟩ (fun ma lv b6 b7 b8 b9 b10 b11 b12 b13 b14 htr f => ?_)
  obtain ⟨f6, f7, f8, f9, f10, f11, f12, f13, f14⟩ := f
  have F : bf_f9 t b6 b7 b8 b9 b10 b11 b12 b13 b14 a6 a7 a8 a9 a10 a11 a12 a13 a14 := ⟨bf_f1_t f6 (bf_f1_u _ _ _), f7, bf_f1_t f8 (bf_f1_u _ _ _), bf_f1_t f9 (bf_f1_u _ _ _), f10, f11, f12, f13, f14⟩
  refine hpost t ma lv (upd a5 t (nI (p + 32 * q))) b6 b7 b8 b9 b10 b11 b12 b13 b14 ht htr (fun t' p' q' ht' hp' hq' e5 => ?_)
  by_cases e : t' = t
  · subst e
    rw [pk_us, nI_eq (by omega) (by omega)] at e5
    have e1 : p' = p := by omega
    have e2 : q' = q := by omega
    subst e1 e2
    exact htr
  · rw [pk_un e] at e5
    have hl := (bf_tr0_ok g hp' hq').2.2.2.1
    exact bf_tr_fr (hcv t' p' q' ht' hp' hq' e5) (by omega) e F
end
section
/-! ===== the pile ===== -/
theorem bf_pop (L : List Int32) (hL : L.length ≤ 10) : ∃ (v : Int32) (L' : List Int32), L'.length ≤ 10 ∧
    ∀ ⦃c w e d wr l ma lv : Int32⦄ ⦃a1 a2 a3 a4 a5 a6 a7 a8 a9 a10 a11 a12 a13 a14 : Nat → Int32⦄ ⦃post : Int32 → St1 → Prop⦄, bf_stk L a3 → (bf_stk L' a3 → post v (c, w, e, d, nI L'.length, wr, l, ma, lv, a1, a2, a3, a4, a5, a6, a7, a8, a9, a10, a11, a12, a13, a14)) → wpX_pop post (c, w, e, d, nI L.length, wr, l, ma, lv, a1, a2, a3, a4, a5, a6, a7, a8, a9, a10, a11, a12, a13, a14) := by
  cases L with
  | nil =>
    refine ⟨0, [], Nat.zero_le _, ?_⟩
    intro c w e d wr l ma lv a1 a2 a3 a4 a5 a6 a7 a8 a9 a10 a11 a12 a13 a14 post hs hp
    exact br_t nI_0 (hp trivial)
  | cons x r =>
    have hL' : r.length + 1 ≤ 10 := hL
    refine ⟨x, r, by omega, ?_⟩
    intro c w e d wr l ma lv a1 a2 a3 a4 a5 a6 a7 a8 a9 a10 a11 a12 a13 a14 post hs hp
    obtain ⟨h1, h2⟩ := hs
    refine br_f (nI_ne0 (n := r.length + 1) (by omega) (by omega)) (nm_r (nI_pred r.length) ⟨vp_in_nI (by omega) (by decide), ?_⟩)
    rw [nI_clamp (by omega), h1]
    exact hp h2
theorem bf_push (v e : Int32) (L : List Int32) (hL : L.length ≤ 10) : ∃ (e' : Int32) (L' : List Int32), L'.length ≤ 10 ∧ (¬ e = 2 → ¬ e' = 2) ∧
    ∀ ⦃c w d wr l ma lv : Int32⦄ ⦃a1 a2 a3 a4 a5 a6 a7 a8 a9 a10 a11 a12 a13 a14 : Nat → Int32⦄ ⦃post : St1 → Prop⦄, bf_stk L a3 → (∀ b3 : Nat → Int32, bf_stk L' b3 → post (c, w, e', d, nI L'.length, wr, l, ma, lv, a1, a2, b3, a4, a5, a6, a7, a8, a9, a10, a11, a12, a13, a14)) → wpX_push post (c, w, e, d, nI L.length, wr, l, ma, lv, a1, a2, a3, a4, a5, a6, a7, a8, a9, a10, a11, a12, a13, a14) v := by
  by_cases hf : L.length = 10
  · refine ⟨3, L, hL, fun _ => by decide, ?_⟩
    intro c w d wr l ma lv a1 a2 a3 a4 a5 a6 a7 a8 a9 a10 a11 a12 a13 a14 post hs hp
    exact br_t (by rw [hf]; rfl) (hp a3 hs)
  · refine ⟨e, v :: L, ?_, fun z => z, ?_⟩
    · show L.length + 1 ≤ 10
      omega
    intro c w d wr l ma lv a1 a2 a3 a4 a5 a6 a7 a8 a9 a10 a11 a12 a13 a14 post hs hp
    exact br_f (fun z => hf ((nI_eq (b := 10) (by omega) (by decide)).mp z)) ⟨vp_in_nI (by omega) (by decide), nm_r (e' := upd a3 L.length v) (by rw [nI_clamp (by omega)]) (nm_r (nI_1 _) (hp _ (bf_stk_push hs)))⟩
/-- W takes end e and pile L to e' and L' -/
def bf_WX (g gv : Nat → Int32) (W : (St1 → Prop) → St1 → Prop) (e : Int32) (L : List Int32) (e' : Int32) (L' : List Int32) : Prop :=
  L'.length ≤ 10 ∧ (¬ e = 2 → ¬ e' = 2) ∧
  ∀ ⦃c w d wr l ma lv : Int32⦄ ⦃a3 a4 a5 a6 a7 a8 a9 a10 a11 a12 a13 a14 : Nat → Int32⦄ ⦃post : St1 → Prop⦄, bf_stk L a3 → (∀ b3 : Nat → Int32, bf_stk L' b3 → post (c, w, e', d, nI L'.length, wr, l, ma, lv, g, gv, b3, a4, a5, a6, a7, a8, a9, a10, a11, a12, a13, a14)) → W post (c, w, e, d, nI L.length, wr, l, ma, lv, g, gv, a3, a4, a5, a6, a7, a8, a9, a10, a11, a12, a13, a14)
theorem bf_w40 (g gv : Nat → Int32) (x b e : Int32) (L : List Int32) (hL : L.length ≤ 10) : ∃ e' L', bf_WX g gv (fun post u => match u with | (c, w, e, d, h, wr, l, ma, lv, a1, a2, a3, a4, a5, a6, a7, a8, a9, a10, a11, a12, a13, a14) => wX_work_40 post x b c w e d h wr l ma lv a1 a2 a3 a4 a5 a6 a7 a8 a9 a10 a11 a12 a13 a14) e L e' L' := by
  by_cases c14 : x = 14
  · obtain ⟨e1, L1, l1, n1, P1⟩ := bf_push b e L hL
    obtain ⟨e2, L2, l2, n2, P2⟩ := bf_push b e1 L1 l1
    refine ⟨e2, L2, l2, fun z => n2 (n1 z), ?_⟩
    intro c w d wr l ma lv a3 a4 a5 a6 a7 a8 a9 a10 a11 a12 a13 a14 post hs hp
    exact br_t c14 (P1 hs (fun b3 s1 => P2 s1 (fun d3 s2 => hp d3 s2)))
  by_cases c15 : x = 15
  · obtain ⟨v, L0, l0, P0⟩ := bf_pop L hL
    obtain ⟨e1, L1, l1, n1, P1⟩ := bf_push b e L0 l0
    obtain ⟨e2, L2, l2, n2, P2⟩ := bf_push v e1 L1 l1
    refine ⟨e2, L2, l2, fun z => n2 (n1 z), ?_⟩
    intro c w d wr l ma lv a3 a4 a5 a6 a7 a8 a9 a10 a11 a12 a13 a14 post hs hp
    exact br_f c14 (br_t c15 (P0 hs (fun s0 => P1 s0 (fun b3 s1 => P2 s1 (fun d3 s2 => hp d3 s2)))))
  by_cases c17 : x = 17
  · by_cases hz : b = 0
    · obtain ⟨e1, L1, l1, n1, P1⟩ := bf_push 1 e L hL
      refine ⟨e1, L1, l1, n1, ?_⟩
      intro c w d wr l ma lv a3 a4 a5 a6 a7 a8 a9 a10 a11 a12 a13 a14 post hs hp
      refine br_f c14 (br_f c15 (br_t c17 (br_t hz ?_)))
      unfold wX_work_99
      exact P1 hs (fun b3 s1 => hp b3 s1)
    · obtain ⟨e1, L1, l1, n1, P1⟩ := bf_push 0 e L hL
      refine ⟨e1, L1, l1, n1, ?_⟩
      intro c w d wr l ma lv a3 a4 a5 a6 a7 a8 a9 a10 a11 a12 a13 a14 post hs hp
      refine br_f c14 (br_f c15 (br_t c17 (br_f hz ?_)))
      unfold wX_work_99
      exact P1 hs (fun b3 s1 => hp b3 s1)
  by_cases c27 : x = 27
  · obtain ⟨v, L0, l0, P0⟩ := bf_pop L hL
    obtain ⟨k, hk, ek⟩ := bf_cell v b
    obtain ⟨e1, L1, l1, n1, P1⟩ := bf_push (g k) e L0 l0
    refine ⟨e1, L1, l1, n1, ?_⟩
    intro c w d wr l ma lv a3 a4 a5 a6 a7 a8 a9 a10 a11 a12 a13 a14 post hs hp
    refine br_f c14 (br_f c15 (br_f c17 (br_t c27 (P0 hs (fun s0 => ⟨by rw [ek]; exact vp_in_nI hk (by decide), ?_⟩)))))
    rw [ek, nI_clamp (by omega)]
    exact P1 s0 (fun b3 s1 => hp b3 s1)
  by_cases c28 : x = 28
  · obtain ⟨k, hk', ek⟩ := pk_andE b (m := 3) 2 (by decide)
    have hk : k < 4 := hk'
    obtain ⟨e1, L1, l1, n1, P1⟩ := bf_push (gv k) e L hL
    refine ⟨e1, L1, l1, n1, ?_⟩
    intro c w d wr l ma lv a3 a4 a5 a6 a7 a8 a9 a10 a11 a12 a13 a14 post hs hp
    refine br_f c14 (br_f c15 (br_f c17 (br_f c27 (br_t c28 ⟨by rw [ek]; exact vp_in_nI hk (by decide), ?_⟩))))
    rw [ek, nI_clamp (by omega)]
    exact P1 hs (fun b3 s1 => hp b3 s1)
  refine ⟨e, L, hL, fun z => z, ?_⟩
  intro c w d wr l ma lv a3 a4 a5 a6 a7 a8 a9 a10 a11 a12 a13 a14 post hs hp
  exact br_f c14 (br_f c15 (br_f c17 (br_f c27 (br_f c28 (hp a3 hs)))))
theorem bf_work (g gv : Nat → Int32) (x e : Int32) (L : List Int32) (hL : L.length ≤ 10) : ∃ e' L', bf_WX g gv (fun post u => wpX_work post u x) e L e' L' := by
  obtain ⟨b, L0, l0, P0⟩ := bf_pop L hL
  by_cases hA : x < 10
  · obtain ⟨e1, L1, l1, n1, P1⟩ := bf_w40 g gv x b e L0 l0
    refine ⟨e1, L1, l1, n1, ?_⟩
    intro c w d wr l ma lv a3 a4 a5 a6 a7 a8 a9 a10 a11 a12 a13 a14 post hs hp
    show wpX_work post (c, w, e, d, nI L.length, wr, l, ma, lv, g, gv, a3, a4, a5, a6, a7, a8, a9, a10, a11, a12, a13, a14) x
    unfold wpX_work
    dsimp only
    exact P0 hs (fun s0 => br_t hA (P1 s0 hp))
  by_cases hB : 13 < x
  · obtain ⟨e1, L1, l1, n1, P1⟩ := bf_w40 g gv x b e L0 l0
    refine ⟨e1, L1, l1, n1, ?_⟩
    intro c w d wr l ma lv a3 a4 a5 a6 a7 a8 a9 a10 a11 a12 a13 a14 post hs hp
    show wpX_work post (c, w, e, d, nI L.length, wr, l, ma, lv, g, gv, a3, a4, a5, a6, a7, a8, a9, a10, a11, a12, a13, a14) x
    unfold wpX_work
    dsimp only
    exact P0 hs (fun s0 => br_f hA (br_t hB (P1 s0 hp)))
  obtain ⟨a, L1, l1, P1⟩ := bf_pop L0 l0
  obtain ⟨v, C⟩ := bf_comb x a b
  obtain ⟨e2, L2, l2, n2, P2⟩ := bf_push v e L1 l1
  refine ⟨e2, L2, l2, n2, ?_⟩
  intro c w d wr l ma lv a3 a4 a5 a6 a7 a8 a9 a10 a11 a12 a13 a14 post hs hp
  show wpX_work post (c, w, e, d, nI L.length, wr, l, ma, lv, g, gv, a3, a4, a5, a6, a7, a8, a9, a10, a11, a12, a13, a14) x
  unfold wpX_work
  dsimp only
  exact P0 hs (fun s0 => br_f hA (br_f hB (P1 s0 (fun s1 => C rfl rfl (P2 s1 (fun b3 s2 => hp b3 s2))))))
/-! ===== running a trace ===== -/
theorem bf_rt (g gv : Nat → Int32) (R : bf_TR) (hl : R.2.2.2.2.2.2.2.length ≤ 12) (hG : bf_G R.2.2.2.2.2.2.2) (dn : Nat) : ∀ (k i : Nat), k + i = R.2.2.2.2.2.2.2.length → ∀ (e : Int32) (L : List Int32), L.length ≤ 10 →
    ∃ (e' : Int32) (L' : List Int32), L'.length ≤ 10 ∧ (¬ e = 2 → ¬ e' = 2) ∧
    ∀ ⦃t : Nat⦄ ⦃c w wr l ma lv : Int32⦄ ⦃a3 a4 a5 a6 a7 a8 a9 a10 a11 a12 a13 a14 : Nat → Int32⦄ ⦃post : St1 → Prop⦄, t < 16 → bf_tr t R a6 a7 a8 a9 a10 a11 a12 a13 a14 → bf_stk L a3 →
      (∀ b3 : Nat → Int32, bf_stk L' b3 → post (nI R.2.2.1, nI R.2.2.2.1, e', nI (dn + R.2.1), nI L'.length, wr, l, ma, lv, g, gv, b3, a4, a5, a6, a7, a8, a9, a10, a11, a12, a13, a14)) →
      wX_runTrace_2 post (nI t) (k + 1) (nI i) c w e (nI dn) (nI L.length) wr l ma lv g gv a3 a4 a5 a6 a7 a8 a9 a10 a11 a12 a13 a14 := by
  intro k
  induction k with
  | zero =>
    intro i hi e L hL
    refine ⟨e, L, hL, fun z => z, ?_⟩
    intro t c w wr l ma lv a3 a4 a5 a6 a7 a8 a9 a10 a11 a12 a13 a14 post ht htr hs hp
    obtain ⟨h6, h7, h10, h11, h12, h8⟩ := htr
    have et : (nI t).toNatClampNeg = t := nI_clamp (by omega)
    have hv : vp_in (nI t) 16 := vp_in_nI ht (by decide)
    exact ⟨hv, br_t (by rw [et, h12]; exact nI_le (by omega) (by omega)) ⟨hv, nm_r (e' := nI (dn + R.2.1)) (by rw [et, h7, nI_add]) ⟨hv, nm_r (e' := nI R.2.2.1) (by rw [et, h10]) ⟨hv, nm_r (e' := nI R.2.2.2.1) (by rw [et, h11]) (hp a3 hs)⟩⟩⟩⟩
  | succ k ih =>
    intro i hi e L hL
    obtain ⟨x, hx, Hx⟩ := bf_ops_get (r := R.2.2.2.2.2.2.2) i (by omega)
    obtain ⟨g41, g42⟩ := hG x hx
    have main : (∃ e' L', bf_WX g gv (fun post u => (x.1 = 40 → wpX_push post u x.2) ∧ (¬ x.1 = 40 → (x.1 = 41 → vp_in x.2 32 ∧ wpX_push post u (g x.2.toNatClampNeg)) ∧ (¬ x.1 = 41 → (x.1 = 42 → vp_in x.2 4 ∧ wpX_push post u (gv x.2.toNatClampNeg)) ∧ (¬ x.1 = 42 → wpX_work post u x.1)))) e L e' L') := by
      by_cases c40 : x.1 = 40
      · obtain ⟨e1, L1, l1, n1, P1⟩ := bf_push x.2 e L hL
        refine ⟨e1, L1, l1, n1, ?_⟩
        intro c w d wr l ma lv a3 a4 a5 a6 a7 a8 a9 a10 a11 a12 a13 a14 post hs hp
        exact br_t c40 (P1 hs hp)
      by_cases c41 : x.1 = 41
      · obtain ⟨e1, L1, l1, n1, P1⟩ := bf_push (g x.2.toNatClampNeg) e L hL
        refine ⟨e1, L1, l1, n1, ?_⟩
        intro c w d wr l ma lv a3 a4 a5 a6 a7 a8 a9 a10 a11 a12 a13 a14 post hs hp
        exact br_f c40 (br_t c41 ⟨g41 c41, P1 hs hp⟩)
      by_cases c42 : x.1 = 42
      · obtain ⟨e1, L1, l1, n1, P1⟩ := bf_push (gv x.2.toNatClampNeg) e L hL
        refine ⟨e1, L1, l1, n1, ?_⟩
        intro c w d wr l ma lv a3 a4 a5 a6 a7 a8 a9 a10 a11 a12 a13 a14 post hs hp
        exact br_f c40 (br_f c41 (br_t c42 ⟨g42 c42, P1 hs hp⟩))
      obtain ⟨e1, L1, l1, n1, P1⟩ := bf_work g gv x.1 e L hL
      refine ⟨e1, L1, l1, n1, ?_⟩
      intro c w d wr l ma lv a3 a4 a5 a6 a7 a8 a9 a10 a11 a12 a13 a14 post hs hp
      exact br_f c40 (br_f c41 (br_f c42 (P1 hs hp)))
    obtain ⟨e1, L1, l1, n1, P1⟩ := main
    obtain ⟨e2, L2, l2, n2, P2⟩ := ih (i + 1) (by omega) e1 L1 l1
    refine ⟨e2, L2, l2, fun z => n2 (n1 z), ?_⟩
    intro t c w wr l ma lv a3 a4 a5 a6 a7 a8 a9 a10 a11 a12 a13 a14 post ht htr hs hp
    have h12 := htr.2.2.2.2.1
    obtain ⟨x1, x2⟩ := Hx t a13 a14 htr.2.2.2.2.2.2.2
    have et : (nI t).toNatClampNeg = t := nI_clamp (by omega)
    have hv : vp_in (nI t) 16 := vp_in_nI ht (by decide)
    have ix : nI t * 16 + nI i = nI (t * 16 + i) := bf_ix0 t i
    have ei : (nI t * 16 + nI i).toNatClampNeg = t * 16 + i := by rw [ix]; exact nI_clamp (by omega)
    have hv2 : vp_in (nI t * 16 + nI i) 256 := by rw [ix]; exact vp_in_nI (by omega) (by decide)
    refine ⟨hv, br_f (by rw [et, h12]; exact nI_ge (by omega) (by omega)) ⟨hv2, nm_r (e' := x.1) (by rw [ei, x1]) ⟨hv2, nm_r (e' := x.2) (by rw [ei, x2]) ?_⟩⟩⟩
    exact P1 hs (fun b3 s1 => nm_r (nI_1 i) (P2 ht htr s1 hp))
theorem bf_able (R : bf_TR) (hst : R.2.1 ≤ 12) (dn : Nat) (hd : dn ≤ 400) (L : List Int32) : ∃ r : Int32, (¬ r = 0 → dn + R.2.1 ≤ 400) ∧
    ∀ ⦃t : Nat⦄ ⦃c w e wr l ma lv : Int32⦄ ⦃a1 a2 a3 a4 a5 a6 a7 a8 a9 a10 a11 a12 a13 a14 : Nat → Int32⦄ ⦃post : Int32 → Prop⦄, t < 16 → bf_tr t R a6 a7 a8 a9 a10 a11 a12 a13 a14 → post r → wpX_runnable post (c, w, e, nI dn, nI L.length, wr, l, ma, lv, a1, a2, a3, a4, a5, a6, a7, a8, a9, a10, a11, a12, a13, a14) (nI t) := by
  by_cases h1 : nI R.2.1 ≤ 0
  · refine ⟨0, fun z => absurd rfl z, ?_⟩
    intro t c w e wr l ma lv a1 a2 a3 a4 a5 a6 a7 a8 a9 a10 a11 a12 a13 a14 post ht htr hp
    obtain ⟨h6, h7, h10, h11, h12, h8, h9, ho⟩ := htr
    have et : (nI t).toNatClampNeg = t := nI_clamp (by omega)
    have hv : vp_in (nI t) 16 := vp_in_nI ht (by decide)
    exact ⟨hv, br_t (by rw [et, h7]; exact h1) hp⟩
  by_cases h2 : nI L.length < R.2.2.2.2.1
  · refine ⟨0, fun z => absurd rfl z, ?_⟩
    intro t c w e wr l ma lv a1 a2 a3 a4 a5 a6 a7 a8 a9 a10 a11 a12 a13 a14 post ht htr hp
    obtain ⟨h6, h7, h10, h11, h12, h8, h9, ho⟩ := htr
    have et : (nI t).toNatClampNeg = t := nI_clamp (by omega)
    have hv : vp_in (nI t) 16 := vp_in_nI ht (by decide)
    exact ⟨hv, br_f (by rw [et, h7]; exact h1) ⟨hv, br_t (by rw [et, h8]; exact h2) hp⟩⟩
  by_cases h3 : 10 < nI L.length + R.2.2.2.2.2.1
  · refine ⟨0, fun z => absurd rfl z, ?_⟩
    intro t c w e wr l ma lv a1 a2 a3 a4 a5 a6 a7 a8 a9 a10 a11 a12 a13 a14 post ht htr hp
    obtain ⟨h6, h7, h10, h11, h12, h8, h9, ho⟩ := htr
    have et : (nI t).toNatClampNeg = t := nI_clamp (by omega)
    have hv : vp_in (nI t) 16 := vp_in_nI ht (by decide)
    exact ⟨hv, br_f (by rw [et, h7]; exact h1) ⟨hv, br_f (by rw [et, h8]; exact h2) ⟨hv, br_t (by rw [et, h9]; exact h3) hp⟩⟩⟩
  by_cases h4 : 400 < dn + R.2.1
  · refine ⟨0, fun z => absurd rfl z, ?_⟩
    intro t c w e wr l ma lv a1 a2 a3 a4 a5 a6 a7 a8 a9 a10 a11 a12 a13 a14 post ht htr hp
    obtain ⟨h6, h7, h10, h11, h12, h8, h9, ho⟩ := htr
    have et : (nI t).toNatClampNeg = t := nI_clamp (by omega)
    have hv : vp_in (nI t) 16 := vp_in_nI ht (by decide)
    exact ⟨hv, br_f (by rw [et, h7]; exact h1) ⟨hv, br_f (by rw [et, h8]; exact h2) ⟨hv, br_f (by rw [et, h9]; exact h3) ⟨hv, br_t (by rw [et, h7, nI_add]; exact nI_lt (a := 400) h4 (by omega)) hp⟩⟩⟩⟩
  · refine ⟨1, fun z => by omega, ?_⟩
    intro t c w e wr l ma lv a1 a2 a3 a4 a5 a6 a7 a8 a9 a10 a11 a12 a13 a14 post ht htr hp
    obtain ⟨h6, h7, h10, h11, h12, h8, h9, ho⟩ := htr
    have et : (nI t).toNatClampNeg = t := nI_clamp (by omega)
    have hv : vp_in (nI t) 16 := vp_in_nI ht (by decide)
    exact ⟨hv, br_f (by rw [et, h7]; exact h1) ⟨hv, br_f (by rw [et, h8]; exact h2) ⟨hv, br_f (by rw [et, h9]; exact h3) ⟨hv, br_f (by rw [et, h7, nI_add]; exact nI_nlt (a := 400) (by omega) (by decide)) hp⟩⟩⟩⟩
end
section
/-! ===== output, writing into the grid ===== -/
theorem bf_show (v e : Int32) (O : List Int32) (hO : O.length ≤ 16) : ∃ (e' : Int32) (O' : List Int32), O'.length ≤ 16 ∧ (¬ e = 2 → ¬ e' = 2) ∧
    ∀ ⦃c w d h l ma lv : Int32⦄ ⦃a1 a2 a3 a4 a5 a6 a7 a8 a9 a10 a11 a12 a13 a14 : Nat → Int32⦄ ⦃post : St1 → Prop⦄, bf_stk O a4 → (∀ b4 : Nat → Int32, bf_stk O' b4 → post (c, w, e', d, h, nI O'.length, l, ma, lv, a1, a2, a3, b4, a5, a6, a7, a8, a9, a10, a11, a12, a13, a14)) → wpX_show post (c, w, e, d, h, nI O.length, l, ma, lv, a1, a2, a3, a4, a5, a6, a7, a8, a9, a10, a11, a12, a13, a14) v := by
  by_cases hf : O.length = 16
  · refine ⟨4, O, hO, fun _ => by decide, ?_⟩
    intro c w d h l ma lv a1 a2 a3 a4 a5 a6 a7 a8 a9 a10 a11 a12 a13 a14 post hs hp
    exact br_t (by rw [hf]; rfl) (hp a4 hs)
  · refine ⟨e, v :: O, ?_, fun z => z, ?_⟩
    · show O.length + 1 ≤ 16
      omega
    intro c w d h l ma lv a1 a2 a3 a4 a5 a6 a7 a8 a9 a10 a11 a12 a13 a14 post hs hp
    exact br_f (fun z => hf ((nI_eq (b := 16) (by omega) (by decide)).mp z)) ⟨vp_in_nI (by omega) (by decide), nm_r (e' := upd a4 O.length v) (by rw [nI_clamp (by omega)]) (nm_r (nI_1 _) (hp _ (bf_stk_push hs)))⟩
/-- which keys stand after a write at cell k: places below i are done -/
def bf_kp (k : Nat) (a5 a6 : Nat → Int32) (i : Nat) (s : Nat → Int32) : Prop := ∀ t, t < 16 → s t = -1 ∨ (s t = a5 t ∧ (t < i → a5 t < 0 ∨ ¬ bf_bit (a6 t) k))
theorem bf_kp_cv {g : Nat → Int32} {k : Nat} {v : Int32} {s a5 a6 a7 a8 a9 a10 a11 a12 a13 a14 : Nat → Int32} (hcv : bf_cv g a5 a6 a7 a8 a9 a10 a11 a12 a13 a14) (h : bf_kp k a5 a6 16 s) :
    bf_cv (upd g k v) s a6 a7 a8 a9 a10 a11 a12 a13 a14 := by
  intro t p q ht hp hq e5
  rcases h t ht with z | ⟨z, zz⟩
  · rw [z] at e5
    exact absurd (show nI (p + 32 * q) < 0 by rw [← e5]; decide) (nI_pos (by omega))
  · have e5' : a5 t = nI (p + 32 * q) := by rw [← z]; exact e5
    have htr := hcv t p q ht hp hq e5'
    rcases zz ht with y | y
    · rw [e5'] at y
      exact absurd y (nI_pos (by omega))
    · rw [htr.1] at y
      rw [bf_tr0_loc (g := g) (g' := upd g k v) (m := k) (fun j hj => pk_un hj) hp hq y]
      exact htr
theorem bf_write {g : Nat → Int32} {k : Nat} {v : Int32} {c w e d h wr l ma lv : Int32} {a2 a3 a4 a5 a6 a7 a8 a9 a10 a11 a12 a13 a14 : Nat → Int32} {post : St1 → Prop} (hk : k < 32) (hcv : bf_cv g a5 a6 a7 a8 a9 a10 a11 a12 a13 a14)
    (hp : ∀ b5 : Nat → Int32, bf_cv (upd g k v) b5 a6 a7 a8 a9 a10 a11 a12 a13 a14 → post (c, w, e, d, h, wr, l, ma, lv, upd g k v, a2, a3, a4, b5, a6, a7, a8, a9, a10, a11, a12, a13, a14)) : wpX_write post (c, w, e, d, h, wr, l, ma, lv, g, a2, a3, a4, a5, a6, a7, a8, a9, a10, a11, a12, a13, a14) (nI k) v := by
  refine ⟨vp_in_nI hk (by decide), nm_r (e' := upd g k v) (by rw [nI_clamp (by omega)]) ?_⟩
  refine pk_loop (fun n i s => wX_write_9 post (nI k) c w e d h wr l ma lv n (nI i) (upd g k v) a2 a3 a4 s a6 a7 a8 a9 a10 a11 a12 a13 a14) (bf_kp k a5 a6) 16 0 a5 (by decide) (fun t ht => Or.inr ⟨rfl, fun z => absurd z (Nat.not_lt_zero t)⟩) ?_ ?_
  · intro n s hI
    exact br_t (nI_le (a := 16) (Nat.le_refl 16) (by decide)) (hp s (bf_kp_cv hcv hI))
  · intro n i s hi hI hw
    have ei : (nI i).toNatClampNeg = i := nI_clamp (by omega)
    have hv : vp_in (nI i) 16 := vp_in_nI hi (by decide)
    refine br_f (nI_ge (b := 16) (by omega) (by decide)) ⟨hv, ?_⟩
    rw [ei]
    refine br_c (fun z => nm_r (nI_1 i) (hw s (fun t ht => ?_))) (fun z => ⟨hv, br_c (fun y => ⟨hv, nm_e (nm_r (nI_1 i) (hw _ (fun t ht => ?_)))⟩) (fun y => nm_r (nI_1 i) (hw s (fun t ht => ?_)))⟩)
    · rcases hI t ht with x | ⟨x, xx⟩
      · exact Or.inl x
      · refine Or.inr ⟨x, fun u => ?_⟩
        by_cases et : t = i
        · subst et
          rw [x] at z
          exact Or.inl z
        · exact xx (by omega)
    · by_cases et : t = i
      · subst et
        exact Or.inl pk_us
      · rw [pk_un et]
        rcases hI t ht with x | ⟨x, xx⟩
        · exact Or.inl x
        · exact Or.inr ⟨x, fun u => xx (by omega)⟩
    · rcases hI t ht with x | ⟨x, xx⟩
      · exact Or.inl x
      · refine Or.inr ⟨x, fun u => ?_⟩
        by_cases et : t = i
        · subst et
          exact Or.inr y
        · exact xx (by omega)
theorem bf_store (g : Nat → Int32) (L : List Int32) (hL : L.length ≤ 10) : ∃ (g' : Nat → Int32) (L' : List Int32), L'.length ≤ 10 ∧
    ∀ ⦃c w e d wr l ma lv : Int32⦄ ⦃a2 a3 a4 a5 a6 a7 a8 a9 a10 a11 a12 a13 a14 : Nat → Int32⦄ ⦃post : St1 → Prop⦄, bf_stk L a3 → bf_cv g a5 a6 a7 a8 a9 a10 a11 a12 a13 a14 → (∀ b5 : Nat → Int32, bf_stk L' a3 → bf_cv g' b5 a6 a7 a8 a9 a10 a11 a12 a13 a14 → post (c, w, e, d, nI L'.length, wr, l, ma, lv, g', a2, a3, a4, b5, a6, a7, a8, a9, a10, a11, a12, a13, a14)) → wpX_store post (c, w, e, d, nI L.length, wr, l, ma, lv, g, a2, a3, a4, a5, a6, a7, a8, a9, a10, a11, a12, a13, a14) := by
  obtain ⟨y, L1, l1, P1⟩ := bf_pop L hL
  obtain ⟨x, L2, l2, P2⟩ := bf_pop L1 l1
  obtain ⟨v, L3, l3, P3⟩ := bf_pop L2 l2
  obtain ⟨k, hk, ek⟩ := bf_cell x y
  refine ⟨upd g k (v &&& 31), L3, l3, ?_⟩
  intro c w e d wr l ma lv a2 a3 a4 a5 a6 a7 a8 a9 a10 a11 a12 a13 a14 post hs hcv hp
  unfold wpX_store
  dsimp only
  refine P1 hs (fun s1 => P2 s1 (fun s2 => P3 s2 (fun s3 => ?_)))
  rw [ek]
  exact bf_write hk hcv (fun b5 hc => hp b5 s3 hc)

/-! ===== a single step ===== -/
def bf_no (g : Nat → Int32) : Prop := ∀ i, i < 32 → ¬ g i = 26
abbrev bf_X : Type := (Nat → Int32) × Nat × Nat × Int32 × List Int32 × List Int32
/-- W takes grid g, cell p, way q, end e, pile L, output O to X -/
def bf_SX (gv : Nat → Int32) (W : (St1 → Prop) → St1 → Prop) (g : Nat → Int32) (p q : Nat) (e : Int32) (L O : List Int32) (X : bf_X) : Prop :=
  X.2.1 < 32 ∧ X.2.2.1 < 4 ∧ X.2.2.2.2.1.length ≤ 10 ∧ X.2.2.2.2.2.length ≤ 16 ∧ (¬ e = 2 → ¬ X.2.2.2.1 = 2) ∧ (bf_no g → X.1 = g) ∧
  ∀ ⦃d l ma lv : Int32⦄ ⦃a3 a4 a5 a6 a7 a8 a9 a10 a11 a12 a13 a14 : Nat → Int32⦄ ⦃post : St1 → Prop⦄, bf_stk L a3 → bf_stk O a4 → bf_cv g a5 a6 a7 a8 a9 a10 a11 a12 a13 a14 →
    (∀ b3 b4 b5 : Nat → Int32, bf_stk X.2.2.2.2.1 b3 → bf_stk X.2.2.2.2.2 b4 → bf_cv X.1 b5 a6 a7 a8 a9 a10 a11 a12 a13 a14 →
      post (nI X.2.1, nI X.2.2.1, X.2.2.2.1, d, nI X.2.2.2.2.1.length, nI X.2.2.2.2.2.length, l, ma, lv, X.1, gv, b3, b4, b5, a6, a7, a8, a9, a10, a11, a12, a13, a14)) →
    W post (nI p, nI q, e, d, nI L.length, nI O.length, l, ma, lv, g, gv, a3, a4, a5, a6, a7, a8, a9, a10, a11, a12, a13, a14)
theorem bf_s202 (e : Int32) {p q : Nat} (hp : p < 32) (hq : q < 4) : ∃ p' : Nat, p' < 32 ∧
    ∀ ⦃d h wr l ma lv : Int32⦄ ⦃a1 a2 a3 a4 a5 a6 a7 a8 a9 a10 a11 a12 a13 a14 : Nat → Int32⦄ ⦃post : St1 → Prop⦄, post (nI p', nI q, e, d, h, wr, l, ma, lv, a1, a2, a3, a4, a5, a6, a7, a8, a9, a10, a11, a12, a13, a14) → wX_step_202 post (nI p) (nI q) e d h wr l ma lv a1 a2 a3 a4 a5 a6 a7 a8 a9 a10 a11 a12 a13 a14 := by
  by_cases he : e = 0
  · refine ⟨bf_mv p q, (bf_mv_ok p hp q hq).2, ?_⟩
    intro d h wr l ma lv a1 a2 a3 a4 a5 a6 a7 a8 a9 a10 a11 a12 a13 a14 post hpost
    exact br_t he (bf_moved hp hq hpost)
  · refine ⟨p, hp, ?_⟩
    intro d h wr l ma lv a1 a2 a3 a4 a5 a6 a7 a8 a9 a10 a11 a12 a13 a14 post hpost
    exact br_f he hpost
theorem bf_s63 (gv g : Nat → Int32) (x e : Int32) {p q : Nat} {L O : List Int32} (hp : p < 32) (hq : q < 4) (hL : L.length ≤ 10) (hO : O.length ≤ 16) :
    ∃ X, bf_SX gv (fun post u => match u with | (c, w, e, d, h, wr, l, ma, lv, a1, a2, a3, a4, a5, a6, a7, a8, a9, a10, a11, a12, a13, a14) => wX_step_63 post x c w e d h wr l ma lv a1 a2 a3 a4 a5 a6 a7 a8 a9 a10 a11 a12 a13 a14) g p q e L O X := by
  obtain ⟨e1, L1, l1, n1, P1⟩ := bf_work g gv x e L hL
  obtain ⟨p2, hp2, P2⟩ := bf_s202 e1 hp hq
  refine ⟨(g, p2, q, e1, L1, O), hp2, hq, l1, hO, n1, fun _ => rfl, ?_⟩
  intro d l ma lv a3 a4 a5 a6 a7 a8 a9 a10 a11 a12 a13 a14 post hs ho hcv hpost
  show wX_step_63 post x (nI p) (nI q) e d (nI L.length) (nI O.length) l ma lv g gv a3 a4 a5 a6 a7 a8 a9 a10 a11 a12 a13 a14
  unfold wX_step_63
  exact P1 hs (fun b3 s1 => P2 (hpost b3 a4 a5 s1 ho hcv))
theorem bf_s106 (gv g : Nat → Int32) (x e : Int32) (hx : x = 22 ∨ x = 23) {p q : Nat} {L O : List Int32} (hp : p < 32) (hq : q < 4) (hL : L.length ≤ 10) (hO : O.length ≤ 16) :
    ∃ X, bf_SX gv (fun post u => match u with | (c, w, e, d, h, wr, l, ma, lv, a1, a2, a3, a4, a5, a6, a7, a8, a9, a10, a11, a12, a13, a14) => wX_step_106 post x c w e d h wr l ma lv a1 a2 a3 a4 a5 a6 a7 a8 a9 a10 a11 a12 a13 a14) g p q e L O X := by
  obtain ⟨v, L1, l1, P1⟩ := bf_pop L hL
  have hw : ∃ q' : Nat, q' < 4 ∧ (if v = 0 then (x - 22) * 2 + 0 else (x - 22) * 2 + 1) = nI q' := by
    rcases hx with rfl | rfl
    · by_cases hz : v = 0
      · exact ⟨0, by decide, by rw [if_pos hz]; decide⟩
      · exact ⟨1, by decide, by rw [if_neg hz]; decide⟩
    · by_cases hz : v = 0
      · exact ⟨2, by decide, by rw [if_pos hz]; decide⟩
      · exact ⟨3, by decide, by rw [if_neg hz]; decide⟩
  obtain ⟨q', hq', eq'⟩ := hw
  obtain ⟨p2, hp2, P2⟩ := bf_s202 e hp hq'
  refine ⟨(g, p2, q', e, L1, O), hp2, hq', l1, hO, fun z => z, fun _ => rfl, ?_⟩
  intro d l ma lv a3 a4 a5 a6 a7 a8 a9 a10 a11 a12 a13 a14 post hs ho hcv hpost
  show wX_step_106 post x (nI p) (nI q) e d (nI L.length) (nI O.length) l ma lv g gv a3 a4 a5 a6 a7 a8 a9 a10 a11 a12 a13 a14
  unfold wX_step_106
  refine P1 hs (fun s1 => ?_)
  by_cases hz : v = 0
  · rw [if_pos hz] at eq'
    exact br_t hz (nm_r eq' (P2 (hpost a3 a4 a5 s1 ho hcv)))
  · rw [if_neg hz] at eq'
    exact br_f hz (nm_r eq' (P2 (hpost a3 a4 a5 s1 ho hcv)))
theorem bf_s94 (gv g : Nat → Int32) (x e : Int32) (hx : bf_no g → ¬ x = 26) {p q : Nat} {L O : List Int32} (hp : p < 32) (hq : q < 4) (hL : L.length ≤ 10) (hO : O.length ≤ 16) :
    ∃ X, bf_SX gv (fun post u => match u with | (c, w, e, d, h, wr, l, ma, lv, a1, a2, a3, a4, a5, a6, a7, a8, a9, a10, a11, a12, a13, a14) => wX_step_94 post x c w e d h wr l ma lv a1 a2 a3 a4 a5 a6 a7 a8 a9 a10 a11 a12 a13 a14) g p q e L O X := by
  by_cases c22 : x = 22
  · obtain ⟨X, x1, x2, x3, x4, x5, x6, H⟩ := bf_s106 gv g x e (Or.inl c22) hp hq hL hO
    refine ⟨X, x1, x2, x3, x4, x5, x6, ?_⟩
    intro d l ma lv a3 a4 a5 a6 a7 a8 a9 a10 a11 a12 a13 a14 post hs ho hcv hpost
    exact br_t c22 (H hs ho hcv hpost)
  by_cases c23 : x = 23
  · obtain ⟨X, x1, x2, x3, x4, x5, x6, H⟩ := bf_s106 gv g x e (Or.inr c23) hp hq hL hO
    refine ⟨X, x1, x2, x3, x4, x5, x6, ?_⟩
    intro d l ma lv a3 a4 a5 a6 a7 a8 a9 a10 a11 a12 a13 a14 post hs ho hcv hpost
    exact br_f c22 (br_t c23 (H hs ho hcv hpost))
  by_cases c24 : x = 24
  · obtain ⟨p2, hp2, P2⟩ := bf_s202 e (bf_mv_ok p hp q hq).2 hq
    refine ⟨(g, p2, q, e, L, O), hp2, hq, hL, hO, fun z => z, fun _ => rfl, ?_⟩
    intro d l ma lv a3 a4 a5 a6 a7 a8 a9 a10 a11 a12 a13 a14 post hs ho hcv hpost
    exact br_f c22 (br_f c23 (br_t c24 (bf_moved hp hq (P2 (hpost a3 a4 a5 hs ho hcv)))))
  by_cases c25 : x = 25
  · obtain ⟨v, L1, l1, P1⟩ := bf_pop L hL
    obtain ⟨e1, O1, o1, n1, Q1⟩ := bf_show v e O hO
    obtain ⟨p2, hp2, P2⟩ := bf_s202 e1 hp hq
    refine ⟨(g, p2, q, e1, L1, O1), hp2, hq, l1, o1, n1, fun _ => rfl, ?_⟩
    intro d l ma lv a3 a4 a5 a6 a7 a8 a9 a10 a11 a12 a13 a14 post hs ho hcv hpost
    exact br_f c22 (br_f c23 (br_f c24 (br_t c25 (P1 hs (fun s1 => Q1 ho (fun b4 t1 => P2 (hpost a3 b4 a5 s1 t1 hcv)))))))
  by_cases c26 : x = 26
  · obtain ⟨g1, L1, l1, P1⟩ := bf_store g L hL
    obtain ⟨p2, hp2, P2⟩ := bf_s202 e hp hq
    refine ⟨(g1, p2, q, e, L1, O), hp2, hq, l1, hO, fun z => z, fun z => absurd c26 (hx z), ?_⟩
    intro d l ma lv a3 a4 a5 a6 a7 a8 a9 a10 a11 a12 a13 a14 post hs ho hcv hpost
    exact br_f c22 (br_f c23 (br_f c24 (br_f c25 (br_t c26 (P1 hs hcv (fun b5 s1 cv1 => P2 (hpost a3 a4 b5 s1 ho cv1)))))))
  by_cases c29 : x = 29
  · obtain ⟨p2, hp2, P2⟩ := bf_s202 1 hp hq
    refine ⟨(g, p2, q, 1, L, O), hp2, hq, hL, hO, fun _ => (show ¬ (1 : Int32) = 2 by decide), fun _ => rfl, ?_⟩
    intro d l ma lv a3 a4 a5 a6 a7 a8 a9 a10 a11 a12 a13 a14 post hs ho hcv hpost
    exact br_f c22 (br_f c23 (br_f c24 (br_f c25 (br_f c26 (br_t c29 (P2 (hpost a3 a4 a5 hs ho hcv)))))))
  obtain ⟨p2, hp2, P2⟩ := bf_s202 e hp hq
  refine ⟨(g, p2, q, e, L, O), hp2, hq, hL, hO, fun z => z, fun _ => rfl, ?_⟩
  intro d l ma lv a3 a4 a5 a6 a7 a8 a9 a10 a11 a12 a13 a14 post hs ho hcv hpost
  exact br_f c22 (br_f c23 (br_f c24 (br_f c25 (br_f c26 (br_f c29 (P2 (hpost a3 a4 a5 hs ho hcv)))))))
theorem bf_s51 (gv g : Nat → Int32) (x e : Int32) (hx : bf_no g → ¬ x = 26) {p q : Nat} {L O : List Int32} (hp : p < 32) (hq : q < 4) (hL : L.length ≤ 10) (hO : O.length ≤ 16) :
    ∃ X, bf_SX gv (fun post u => match u with | (c, w, e, d, h, wr, l, ma, lv, a1, a2, a3, a4, a5, a6, a7, a8, a9, a10, a11, a12, a13, a14) => wX_step_51 post x c w e d h wr l ma lv a1 a2 a3 a4 a5 a6 a7 a8 a9 a10 a11 a12 a13 a14) g p q e L O X := by
  by_cases c27 : x = 27
  · obtain ⟨X, x1, x2, x3, x4, x5, x6, H⟩ := bf_s63 gv g x e hp hq hL hO
    refine ⟨X, x1, x2, x3, x4, x5, x6, ?_⟩
    intro d l ma lv a3 a4 a5 a6 a7 a8 a9 a10 a11 a12 a13 a14 post hs ho hcv hpost
    exact br_t c27 (H hs ho hcv hpost)
  by_cases c28 : x = 28
  · obtain ⟨X, x1, x2, x3, x4, x5, x6, H⟩ := bf_s63 gv g x e hp hq hL hO
    refine ⟨X, x1, x2, x3, x4, x5, x6, ?_⟩
    intro d l ma lv a3 a4 a5 a6 a7 a8 a9 a10 a11 a12 a13 a14 post hs ho hcv hpost
    exact br_f c27 (br_t c28 (H hs ho hcv hpost))
  by_cases h1 : x < 18
  · obtain ⟨X, x1, x2, x3, x4, x5, x6, H⟩ := bf_s94 gv g x e hx hp hq hL hO
    refine ⟨X, x1, x2, x3, x4, x5, x6, ?_⟩
    intro d l ma lv a3 a4 a5 a6 a7 a8 a9 a10 a11 a12 a13 a14 post hs ho hcv hpost
    exact br_f c27 (br_f c28 (br_t h1 (H hs ho hcv hpost)))
  by_cases h2 : 21 < x
  · obtain ⟨X, x1, x2, x3, x4, x5, x6, H⟩ := bf_s94 gv g x e hx hp hq hL hO
    refine ⟨X, x1, x2, x3, x4, x5, x6, ?_⟩
    intro d l ma lv a3 a4 a5 a6 a7 a8 a9 a10 a11 a12 a13 a14 post hs ho hcv hpost
    exact br_f c27 (br_f c28 (br_f h1 (br_t h2 (H hs ho hcv hpost))))
  obtain ⟨j, hj, e1, e2⟩ := bf_turn4 h1 h2
  obtain ⟨p2, hp2, P2⟩ := bf_s202 e hp hj
  refine ⟨(g, p2, j, e, L, O), hp2, hj, hL, hO, fun z => z, fun _ => rfl, ?_⟩
  intro d l ma lv a3 a4 a5 a6 a7 a8 a9 a10 a11 a12 a13 a14 post hs ho hcv hpost
  exact br_f c27 (br_f c28 (br_f h1 (br_f h2 (nm_r e1 (P2 (hpost a3 a4 a5 hs ho hcv))))))
theorem bf_s39 (gv g : Nat → Int32) (x e : Int32) (hx : bf_no g → ¬ x = 26) {p q : Nat} {L O : List Int32} (hp : p < 32) (hq : q < 4) (hL : L.length ≤ 10) (hO : O.length ≤ 16) :
    ∃ X, bf_SX gv (fun post u => match u with | (c, w, e, d, h, wr, l, ma, lv, a1, a2, a3, a4, a5, a6, a7, a8, a9, a10, a11, a12, a13, a14) => wX_step_39 post x c w e d h wr l ma lv a1 a2 a3 a4 a5 a6 a7 a8 a9 a10 a11 a12 a13 a14) g p q e L O X := by
  by_cases h1 : x < 10
  · obtain ⟨X, x1, x2, x3, x4, x5, x6, H⟩ := bf_s51 gv g x e hx hp hq hL hO
    refine ⟨X, x1, x2, x3, x4, x5, x6, ?_⟩
    intro d l ma lv a3 a4 a5 a6 a7 a8 a9 a10 a11 a12 a13 a14 post hs ho hcv hpost
    exact br_t h1 (H hs ho hcv hpost)
  by_cases h2 : x ≤ 17
  · obtain ⟨X, x1, x2, x3, x4, x5, x6, H⟩ := bf_s63 gv g x e hp hq hL hO
    refine ⟨X, x1, x2, x3, x4, x5, x6, ?_⟩
    intro d l ma lv a3 a4 a5 a6 a7 a8 a9 a10 a11 a12 a13 a14 post hs ho hcv hpost
    exact br_f h1 (br_t h2 (H hs ho hcv hpost))
  · obtain ⟨X, x1, x2, x3, x4, x5, x6, H⟩ := bf_s51 gv g x e hx hp hq hL hO
    refine ⟨X, x1, x2, x3, x4, x5, x6, ?_⟩
    intro d l ma lv a3 a4 a5 a6 a7 a8 a9 a10 a11 a12 a13 a14 post hs ho hcv hpost
    exact br_f h1 (br_f h2 (H hs ho hcv hpost))
/-- a step, but for the counter of steps, which the caller has as d -/
theorem bf_step (gv g : Nat → Int32) (e : Int32) {p q dn : Nat} {L O : List Int32} (hp : p < 32) (hq : q < 4) (hL : L.length ≤ 10) (hO : O.length ≤ 16) :
    ∃ X : bf_X, X.2.1 < 32 ∧ X.2.2.1 < 4 ∧ X.2.2.2.2.1.length ≤ 10 ∧ X.2.2.2.2.2.length ≤ 16 ∧ (¬ e = 2 → ¬ X.2.2.2.1 = 2) ∧ (bf_no g → X.1 = g) ∧
    ∀ ⦃l ma lv : Int32⦄ ⦃a3 a4 a5 a6 a7 a8 a9 a10 a11 a12 a13 a14 : Nat → Int32⦄ ⦃post : St1 → Prop⦄, bf_stk L a3 → bf_stk O a4 → bf_cv g a5 a6 a7 a8 a9 a10 a11 a12 a13 a14 →
    (∀ b3 b4 b5 : Nat → Int32, bf_stk X.2.2.2.2.1 b3 → bf_stk X.2.2.2.2.2 b4 → bf_cv X.1 b5 a6 a7 a8 a9 a10 a11 a12 a13 a14 →
      post (nI X.2.1, nI X.2.2.1, X.2.2.2.1, nI (dn + 1), nI X.2.2.2.2.1.length, nI X.2.2.2.2.2.length, l, ma, lv, X.1, gv, b3, b4, b5, a6, a7, a8, a9, a10, a11, a12, a13, a14)) →
    wpX_step post (nI p, nI q, e, nI dn, nI L.length, nI O.length, l, ma, lv, g, gv, a3, a4, a5, a6, a7, a8, a9, a10, a11, a12, a13, a14) := by
  have hx : bf_no g → ¬ g p = 26 := fun z => z p hp
  have ep : (nI p).toNatClampNeg = p := nI_clamp (by omega)
  have hvp : vp_in (nI p) 32 := vp_in_nI hp (by decide)
  by_cases h1 : g p < 1
  · obtain ⟨X, x1, x2, x3, x4, x5, x6, H⟩ := bf_s39 gv g (g p) e hx hp hq hL hO
    refine ⟨X, x1, x2, x3, x4, x5, x6, ?_⟩
    intro l ma lv a3 a4 a5 a6 a7 a8 a9 a10 a11 a12 a13 a14 post hs ho hcv hpost
    exact ⟨hvp, nm_r (e' := g p) (by rw [ep]) (nm_r (nI_1 dn) (br_t h1 (H hs ho hcv hpost)))⟩
  by_cases h2 : 9 < g p
  · obtain ⟨X, x1, x2, x3, x4, x5, x6, H⟩ := bf_s39 gv g (g p) e hx hp hq hL hO
    refine ⟨X, x1, x2, x3, x4, x5, x6, ?_⟩
    intro l ma lv a3 a4 a5 a6 a7 a8 a9 a10 a11 a12 a13 a14 post hs ho hcv hpost
    exact ⟨hvp, nm_r (e' := g p) (by rw [ep]) (nm_r (nI_1 dn) (br_f h1 (br_t h2 (H hs ho hcv hpost))))⟩
  obtain ⟨e1, L1, l1, n1, P1⟩ := bf_push (g p) e L hL
  obtain ⟨p2, hp2, P2⟩ := bf_s202 e1 hp hq
  refine ⟨(g, p2, q, e1, L1, O), hp2, hq, l1, hO, n1, fun _ => rfl, ?_⟩
  intro l ma lv a3 a4 a5 a6 a7 a8 a9 a10 a11 a12 a13 a14 post hs ho hcv hpost
  exact ⟨hvp, nm_r (e' := g p) (by rw [ep]) (nm_r (nI_1 dn) (br_f h1 (br_f h2 (P1 hs (fun b3 s1 => P2 (hpost b3 a4 a5 s1 ho hcv))))))⟩
end
section
/-! ===== a run ===== -/
/-- grid, cell, way, end, steps done, pile, output -/
abbrev bf_Y : Type := (Nat → Int32) × Nat × Nat × Int32 × Nat × List Int32 × List Int32
def bf_ok (Y : bf_Y) : Prop := Y.2.1 < 32 ∧ Y.2.2.1 < 4 ∧ Y.2.2.2.2.1 ≤ 400 ∧ Y.2.2.2.2.2.1.length ≤ 10 ∧ Y.2.2.2.2.2.2.length ≤ 16 ∧ (Y.2.2.2.1 = 2 → Y.2.2.2.2.1 = 400)
theorem bf_rl (gv : Nat → Int32) : ∀ (k i : Nat), k + i = 401 → ∀ (g : Nat → Int32) (p q : Nat) (e : Int32) (dn : Nat) (L O : List Int32), bf_ok (g, p, q, e, dn, L, O) →
    ∃ Y : bf_Y, bf_ok Y ∧ (bf_no g → Y.1 = g) ∧
    ∀ ⦃l ma lv : Int32⦄ ⦃a3 a4 a5 a6 a7 a8 a9 a10 a11 a12 a13 a14 : Nat → Int32⦄ ⦃post : Int32 → St1 → Prop⦄, bf_stk L a3 → bf_stk O a4 → bf_cv g a5 a6 a7 a8 a9 a10 a11 a12 a13 a14 →
    (∀ (ma lv : Int32) (a3 a4 a5 a6 a7 a8 a9 a10 a11 a12 a13 a14 : Nat → Int32), bf_stk Y.2.2.2.2.2.1 a3 → bf_stk Y.2.2.2.2.2.2 a4 → bf_cv Y.1 a5 a6 a7 a8 a9 a10 a11 a12 a13 a14 →
      post Y.2.2.2.1 (nI Y.2.1, nI Y.2.2.1, Y.2.2.2.1, nI Y.2.2.2.2.1, nI Y.2.2.2.2.2.1.length, nI Y.2.2.2.2.2.2.length, Y.2.2.2.1, ma, lv, Y.1, gv, a3, a4, a5, a6, a7, a8, a9, a10, a11, a12, a13, a14)) →
    wX_run_32 post (k + 1) (nI i) (nI p) (nI q) e (nI dn) (nI L.length) (nI O.length) l ma lv g gv a3 a4 a5 a6 a7 a8 a9 a10 a11 a12 a13 a14 := by
  intro k
  induction k with
  | zero =>
    intro i hi g p q e dn L O hok
    refine ⟨(g, p, q, e, dn, L, O), hok, fun _ => rfl, ?_⟩
    intro l ma lv a3 a4 a5 a6 a7 a8 a9 a10 a11 a12 a13 a14 post hs ho hcv hpost
    exact br_t (nI_lt (a := 400) (by omega) (by omega)) (hpost _ _ _ _ _ _ _ _ _ _ _ _ _ _ hs ho hcv)
  | succ k ih =>
    intro i hi g p q e dn L O hok
    obtain ⟨hp, hq, hd, hL, hO, h2⟩ := hok
    have hp' : p < 32 := hp
    have hq' : q < 4 := hq
    have hd' : dn ≤ 400 := hd
    have hL' : L.length ≤ 10 := hL
    have hO' : O.length ≤ 16 := hO
    have hi4 : ¬ 400 < nI i := nI_nlt (a := 400) (by omega) (by decide)
    by_cases he : e = 0
    · have he2 : ¬ e = 2 := by rw [he]; decide
      by_cases hdn : dn = 400
      · obtain ⟨Y, y1, y2, H⟩ := ih (i + 1) (by omega) g p q 2 dn L O ⟨hp, hq, hd, hL, hO, fun _ => hdn⟩
        refine ⟨Y, y1, y2, ?_⟩
        intro l ma lv a3 a4 a5 a6 a7 a8 a9 a10 a11 a12 a13 a14 post hs ho hcv hpost
        exact br_f hi4 (br_t he (br_t (by rw [hdn]; rfl) (nm_r (nI_1 i) (H hs ho hcv hpost))))
      have hdn2 : ¬ nI dn = 400 := fun z => hdn ((nI_eq (b := 400) (by omega) (by decide)).mp z)
      obtain ⟨t1, t2, t3, t4, t5⟩ := bf_tr0_ok g hp' hq'
      obtain ⟨r, hr, K⟩ := bf_able (bf_tr0 g p q) t1 dn hd' L
      by_cases h0 : r = 0
      · obtain ⟨X, x1, x2, x3, x4, x5, x6, P⟩ := bf_step gv g e (dn := dn) hp' hq' hL' hO'
        obtain ⟨Y, y1, y2, H⟩ := ih (i + 1) (by omega) X.1 X.2.1 X.2.2.1 X.2.2.2.1 (dn + 1) X.2.2.2.2.1 X.2.2.2.2.2 ⟨x1, x2, show dn + 1 ≤ 400 by omega, x3, x4, fun z => absurd z (x5 he2)⟩
        refine ⟨Y, y1, fun z => (y2 (by rw [x6 z]; exact z)).trans (x6 z), ?_⟩
        intro l ma lv a3 a4 a5 a6 a7 a8 a9 a10 a11 a12 a13 a14 post hs ho hcv hpost
        exact br_f hi4 (br_t he (br_f hdn2 (bf_here hp' hq' hcv (fun t ma lv b5 b6 b7 b8 b9 b10 b11 b12 b13 b14 ht htr hcv2 => K ht htr (br_t h0 (P hs ho hcv2 (fun d3 d4 d5 s3 s4 s5 => nm_r (nI_1 i) (H s3 s4 s5 hpost))))))))
      · have hdr := hr h0
        obtain ⟨e1, L1, l1, n1, P⟩ := bf_rt g gv (bf_tr0 g p q) t4 t5 dn _ 0 (Nat.add_zero _) e L hL'
        obtain ⟨Y, y1, y2, H⟩ := ih (i + 1) (by omega) g (bf_tr0 g p q).2.2.1 (bf_tr0 g p q).2.2.2.1 e1 (dn + (bf_tr0 g p q).2.1) L1 O ⟨t2, t3, hdr, l1, hO, fun z => absurd z (n1 he2)⟩
        refine ⟨Y, y1, y2, ?_⟩
        intro l ma lv a3 a4 a5 a6 a7 a8 a9 a10 a11 a12 a13 a14 post hs ho hcv hpost
        exact br_f hi4 (br_t he (br_f hdn2 (bf_here hp' hq' hcv (fun t ma lv b5 b6 b7 b8 b9 b10 b11 b12 b13 b14 ht htr hcv2 => K ht htr (br_f h0 ⟨_, P ht htr hs (fun d3 s3 => nm_r (nI_1 i) (H s3 ho hcv2 hpost))⟩)))))
    · refine ⟨(g, p, q, e, dn, L, O), ⟨hp, hq, hd, hL, hO, h2⟩, fun _ => rfl, ?_⟩
      intro l ma lv a3 a4 a5 a6 a7 a8 a9 a10 a11 a12 a13 a14 post hs ho hcv hpost
      exact br_f hi4 (br_f he (hpost _ _ _ _ _ _ _ _ _ _ _ _ _ _ hs ho hcv))
/-- a state matches grid .. of Y, inputs gv, last end l -/
def bf_M (gv : Nat → Int32) (l : Int32) (Y : bf_Y) (s : St1) : Prop := ∃ (ma lv : Int32) (a3 a4 a5 a6 a7 a8 a9 a10 a11 a12 a13 a14 : Nat → Int32),
  s = (nI Y.2.1, nI Y.2.2.1, Y.2.2.2.1, nI Y.2.2.2.2.1, nI Y.2.2.2.2.2.1.length, nI Y.2.2.2.2.2.2.length, l, ma, lv, Y.1, gv, a3, a4, a5, a6, a7, a8, a9, a10, a11, a12, a13, a14) ∧
  bf_stk Y.2.2.2.2.2.1 a3 ∧ bf_stk Y.2.2.2.2.2.2 a4 ∧ bf_cv Y.1 a5 a6 a7 a8 a9 a10 a11 a12 a13 a14
theorem bf_run (gv g : Nat → Int32) : ∃ Y : bf_Y, bf_ok Y ∧ (bf_no g → Y.1 = g) ∧
    ∀ ⦃l : Int32⦄ ⦃Y0 : bf_Y⦄ ⦃s : St1⦄ ⦃post : Int32 → St1 → Prop⦄, Y0.1 = g → bf_M gv l Y0 s → (∀ s', bf_M gv Y.2.2.2.1 Y s' → post Y.2.2.2.1 s') → wpX_run post s := by
  obtain ⟨Y, y1, y2, H⟩ := bf_rl gv 401 0 (Nat.add_zero _) g 0 0 0 0 [] [] ⟨show 0 < 32 by decide, show 0 < 4 by decide, show 0 ≤ 400 by decide, show 0 ≤ 10 by decide, show 0 ≤ 16 by decide, fun z => absurd z (show ¬ (0 : Int32) = 2 by decide)⟩
  refine ⟨Y, y1, y2, ?_⟩
  intro l Y0 s post hg hM hpost
  obtain ⟨ma, lv, a3, a4, a5, a6, a7, a8, a9, a10, a11, a12, a13, a14, rfl, hs, ho, hcv⟩ := hM
  rw [hg] at hcv ⊢
  refine ⟨402, ?_⟩
  exact H (a3 := a3) (a4 := a4) trivial trivial hcv (fun ma lv a3 a4 a5 a6 a7 a8 a9 a10 a11 a12 a13 a14 s3 s4 s5 => hpost _ ⟨ma, lv, a3, a4, a5, a6, a7, a8, a9, a10, a11, a12, a13, a14, rfl, s3, s4, s5⟩)
end
section
/-! ===== the calls of a turn ===== -/
theorem bf_drop {c w e d h wr l ma lv : Int32} {a1 a2 a3 a4 a5 a6 a7 a8 a9 a10 a11 a12 a13 a14 : Nat → Int32} {post : St1 → Prop} (hp : ∀ b5 : Nat → Int32, (∀ t, t < 16 → b5 t = -1) → post (c, w, e, d, h, wr, l, ma, lv, a1, a2, a3, a4, b5, a6, a7, a8, a9, a10, a11, a12, a13, a14)) : wpX_dropAll post (c, w, e, d, h, wr, l, ma, lv, a1, a2, a3, a4, a5, a6, a7, a8, a9, a10, a11, a12, a13, a14) := by
  refine pk_loop (fun n i s => wX_dropAll_2 post c w e d h wr l ma lv n (nI i) a1 a2 a3 a4 s a6 a7 a8 a9 a10 a11 a12 a13 a14) (fun i s => ∀ t, t < i → s t = -1) 16 0 a5 (by decide) (fun t ht => absurd ht (Nat.not_lt_zero t)) ?_ ?_
  · intro n s hI
    exact br_t (nI_le (a := 16) (Nat.le_refl 16) (by decide)) (hp s hI)
  · intro n i s hi hI hw
    refine br_f (nI_ge (b := 16) (by omega) (by decide)) ⟨vp_in_nI hi (by decide), nm_r (e' := upd s i (-1)) (by rw [nI_clamp (by omega)]) (nm_r (nI_1 i) (hw _ (fun t ht => ?_)))⟩
    by_cases et : t = i
    · rw [et, pk_us]
    · rw [pk_un et]
      exact hI t (by omega)
theorem bf_drop_cv {g a5 a6 a7 a8 a9 a10 a11 a12 a13 a14 : Nat → Int32} (h : ∀ t, t < 16 → a5 t = -1) : bf_cv g a5 a6 a7 a8 a9 a10 a11 a12 a13 a14 := by
  intro t p q ht hp hq e5
  rw [h t ht] at e5
  exact absurd (show nI (p + 32 * q) < 0 by rw [← e5]; decide) (nI_pos (by omega))
def bf_clr (g : Nat → Int32) : Nat → (Nat → Int32)
  | 0 => g
  | i + 1 => upd (bf_clr g i) i 0
theorem bf_clear {g : Nat → Int32} {c w e d h wr l ma lv : Int32} {a2 a3 a4 a5 a6 a7 a8 a9 a10 a11 a12 a13 a14 : Nat → Int32} {post : St1 → Prop} (hp : ∀ b5 : Nat → Int32, bf_cv (bf_clr g 32) b5 a6 a7 a8 a9 a10 a11 a12 a13 a14 → post (c, w, e, d, h, wr, l, ma, lv, bf_clr g 32, a2, a3, a4, b5, a6, a7, a8, a9, a10, a11, a12, a13, a14)) : wpX_clear post (c, w, e, d, h, wr, l, ma, lv, g, a2, a3, a4, a5, a6, a7, a8, a9, a10, a11, a12, a13, a14) := by
  refine pk_loop (fun n i s => wX_clear_2 post c w e d h wr l ma lv n (nI i) s a2 a3 a4 a5 a6 a7 a8 a9 a10 a11 a12 a13 a14) (fun i s => s = bf_clr g i) 32 0 g (by decide) rfl ?_ ?_
  · intro n s hI
    subst hI
    exact br_t (nI_le (a := 32) (Nat.le_refl 32) (by decide)) (bf_drop (fun b5 h5 => hp b5 (bf_drop_cv h5)))
  · intro n i s hi hI hw
    subst hI
    exact br_f (nI_ge (b := 32) (by omega) (by decide)) ⟨vp_in_nI hi (by decide), nm_r (e' := upd (bf_clr g i) i 0) (by rw [nI_clamp (by omega)]) (nm_r (nI_1 i) (hw _ rfl))⟩
theorem bf_bad {a b : Nat} {c w e d h wr l ma lv : Int32} {a1 a2 a3 a4 a5 a6 a7 a8 a9 a10 a11 a12 a13 a14 : Nat → Int32} {post : Int32 → Prop} (ha : a < 8) (hb : b < 4) (hp : post 0) : wpX_badCell post (c, w, e, d, h, wr, l, ma, lv, a1, a2, a3, a4, a5, a6, a7, a8, a9, a10, a11, a12, a13, a14) (nI a) (nI b) :=
  br_f (nI_pos (by omega)) (br_f (nI_nlt (a := 7) (by omega) (by decide)) (br_f (nI_pos (by omega)) (br_t (nI_le (b := 3) (by omega) (by decide)) hp)))
theorem bf_at (a b : Nat) : nI a + (8 * nI b) = nI (a + 8 * b) := by
  show nI a + nI 8 * nI b = _
  rw [pk_mul, nI_add]
theorem bf_put {g : Nat → Int32} {a b z : Nat} {c w e d h wr l ma lv : Int32} {a2 a3 a4 a5 a6 a7 a8 a9 a10 a11 a12 a13 a14 : Nat → Int32} {post : Int32 → St1 → Prop} (ha : a < 8) (hb : b < 4) (hz : z < 32) (hcv : bf_cv g a5 a6 a7 a8 a9 a10 a11 a12 a13 a14)
    (hp : ∀ (r : Int32) (b5 : Nat → Int32), bf_cv (upd g (a + 8 * b) (nI z)) b5 a6 a7 a8 a9 a10 a11 a12 a13 a14 → post r (c, w, e, d, h, wr, l, ma, lv, upd g (a + 8 * b) (nI z), a2, a3, a4, b5, a6, a7, a8, a9, a10, a11, a12, a13, a14)) : wpX_put post (c, w, e, d, h, wr, l, ma, lv, g, a2, a3, a4, a5, a6, a7, a8, a9, a10, a11, a12, a13, a14) (nI a) (nI b) (nI z) := by
  unfold wpX_put
  dsimp only
  refine bf_bad ha hb (br_t rfl (br_f (nI_pos (by omega)) (br_t (nI_le (b := 31) (by omega) (by decide)) ?_)))
  rw [bf_at]
  exact ⟨vp_in_nI (by omega) (by decide), nm_e (bf_write (by omega) hcv (fun b5 h5 => hp _ b5 h5))⟩
theorem bf_cell7 (x : Int32) {b : Nat} (hb : b < 4) : ∃ k : Nat, k < 32 ∧ (x &&& 7) + (8 * nI b) = nI k := by
  obtain ⟨i, hi, ei⟩ := pk_andE x (m := 7) 3 (by decide)
  exact ⟨i + 8 * b, by omega, by rw [ei, bf_at]⟩
theorem bf_three (g : Nat → Int32) {a b z : Nat} (ha : a < 8) (hb : b < 4) (hz : z < 32768) : ∃ g' : Nat → Int32, ∀ ⦃c w e d h wr l ma lv : Int32⦄ ⦃a2 a3 a4 a5 a6 a7 a8 a9 a10 a11 a12 a13 a14 : Nat → Int32⦄ ⦃post : Int32 → St1 → Prop⦄, bf_cv g a5 a6 a7 a8 a9 a10 a11 a12 a13 a14 →
    (∀ (b5 : Nat → Int32), bf_cv g' b5 a6 a7 a8 a9 a10 a11 a12 a13 a14 → post 0 (c, w, e, d, h, wr, l, ma, lv, g', a2, a3, a4, b5, a6, a7, a8, a9, a10, a11, a12, a13, a14)) → wpX_putThree post (c, w, e, d, h, wr, l, ma, lv, g, a2, a3, a4, a5, a6, a7, a8, a9, a10, a11, a12, a13, a14) (nI a) (nI b) (nI z) := by
  obtain ⟨k0, hk0, e0⟩ := bf_cell7 (nI a + 0) hb
  obtain ⟨k1, hk1, e1⟩ := bf_cell7 (nI a + 1) hb
  obtain ⟨k2, hk2, e2⟩ := bf_cell7 (nI a + 2) hb
  refine ⟨upd (upd (upd g k0 ((nI z >>> ((5 * 0) &&& 31)) &&& 31)) k1 ((nI z >>> ((5 * 1) &&& 31)) &&& 31)) k2 ((nI z >>> ((5 * 2) &&& 31)) &&& 31), ?_⟩
  intro c w e d h wr l ma lv a2 a3 a4 a5 a6 a7 a8 a9 a10 a11 a12 a13 a14 post hcv hp
  unfold wpX_putThree
  dsimp only
  refine bf_bad ha hb (br_t rfl (br_f (nI_pos (by omega)) (br_t (nI_le (b := 32767) (by omega) (by decide)) ⟨4, br_f (by decide) ?_⟩)))
  rw [e0]
  refine bf_write hk0 hcv (fun b5 h5 => nm_r (e' := 1) (by decide) (br_f (by decide) ?_))
  rw [e1]
  refine bf_write hk1 h5 (fun c5 h5 => nm_r (e' := 2) (by decide) (br_f (by decide) ?_))
  rw [e2]
  exact bf_write hk2 h5 (fun d5 h5 => nm_r (e' := 3) (by decide) (br_t (by decide) (hp d5 h5)))
theorem bf_input {gv : Nat → Int32} {k : Nat} {v : Int32} {c w e d h wr l ma lv : Int32} {a1 a3 a4 a5 a6 a7 a8 a9 a10 a11 a12 a13 a14 : Nat → Int32} {post : Int32 → St1 → Prop} (hk : k < 4) (hp : post 0 (c, w, e, d, h, wr, l, ma, lv, a1, upd gv k v, a3, a4, a5, a6, a7, a8, a9, a10, a11, a12, a13, a14)) : wpX_input post (c, w, e, d, h, wr, l, ma, lv, a1, gv, a3, a4, a5, a6, a7, a8, a9, a10, a11, a12, a13, a14) (nI k) v :=
  br_f (nI_pos (by omega)) (br_t (nI_le (b := 3) (by omega) (by decide)) ⟨vp_in_nI hk (by decide), nm_r (e' := upd gv k v) (by rw [nI_clamp (by omega)]) hp⟩)

theorem bf_a3 (y w : Int32) : (y &&& 3) &&& w = (y &&& w) &&& 3 := by
  rw [Int32.and_assoc, Int32.and_comm 3 w, ← Int32.and_assoc]
/-- a turn: every state that matches Y goes to one that matches Y' -/
theorem bf_turn (gv : Nat → Int32) (l : Int32) (Y : bf_Y) (hok : bf_ok Y) (hl : l = 2 → Y.2.2.2.2.1 = 400) (op x : Int32) : ∃ (gv' : Nat → Int32) (l' : Int32) (Y' : bf_Y), bf_ok Y' ∧ (l' = 2 → Y'.2.2.2.2.1 = 400) ∧
    ∀ ⦃s : St1⦄ ⦃post : Int32 → St1 → Prop⦄, bf_M gv l Y s → (∀ r s', bf_M gv' l' Y' s' → post r s') → wpL_turn post s op x := by
  have hrun : ∃ (gv' : Nat → Int32) (l' : Int32) (Y' : bf_Y), bf_ok Y' ∧ (l' = 2 → Y'.2.2.2.2.1 = 400) ∧
      ∀ ⦃c w e d h wr l ma lv : Int32⦄ ⦃a1 a2 a3 a4 a5 a6 a7 a8 a9 a10 a11 a12 a13 a14 : Nat → Int32⦄ ⦃post : Int32 → St1 → Prop⦄, bf_M gv l Y (c, w, e, d, h, wr, l, ma, lv, a1, a2, a3, a4, a5, a6, a7, a8, a9, a10, a11, a12, a13, a14) → (∀ r s', bf_M gv' l' Y' s' → post r s') → wL_turn_94 post c w e d h wr l ma lv a1 a2 a3 a4 a5 a6 a7 a8 a9 a10 a11 a12 a13 a14 := by
    obtain ⟨Y', y1, y2, R⟩ := bf_run gv Y.1
    refine ⟨gv, Y'.2.2.2.1, Y', y1, y1.2.2.2.2.2, ?_⟩
    intro c w e d h wr l ma lv a1 a2 a3 a4 a5 a6 a7 a8 a9 a10 a11 a12 a13 a14 post hM hp
    unfold wL_turn_94
    refine R rfl hM (fun s' m => ?_)
    have m' := m
    obtain ⟨ma', lv', b3, b4, b5, b6, b7, b8, b9, b10, b11, b12, b13, b14, rfl, -, -, -⟩ := m
    exact hp _ _ m'
  obtain ⟨g, Z⟩ := Y
  by_cases h6 : 6 ≤ op &&& 15
  · by_cases h10 : 10 ≤ op &&& 15
    · by_cases h12 : 12 ≤ op &&& 15
      · by_cases h15 : op &&& 15 < 15
        · obtain ⟨gv', l', Y', y1, y2, R⟩ := hrun
          refine ⟨gv', l', Y', y1, y2, ?_⟩
          intro s post hM hp
          have hM' := hM
          obtain ⟨ma, lv, a3, a4, a5, a6, a7, a8, a9, a10, a11, a12, a13, a14, rfl, -, -, -⟩ := hM
          exact nm_e (br_t h6 (br_t h10 (br_t h12 (br_t h15 (R hM' hp)))))
        · by_cases h0 : x &&& 3 = 0
          · refine ⟨gv, l, (bf_clr g 32, Z), hok, hl, ?_⟩
            intro s post hM hp
            obtain ⟨ma, lv, a3, a4, a5, a6, a7, a8, a9, a10, a11, a12, a13, a14, rfl, hs, ho, hcv⟩ := hM
            exact nm_e (br_t h6 (br_t h10 (br_t h12 (br_f h15 (br_t h0 (bf_clear (fun b5 h5 => hp _ _ ⟨ma, lv, a3, a4, b5, a6, a7, a8, a9, a10, a11, a12, a13, a14, rfl, hs, ho, h5⟩)))))))
          · obtain ⟨gv', l', Y', y1, y2, R⟩ := hrun
            refine ⟨gv', l', Y', y1, y2, ?_⟩
            intro s post hM hp
            have hM' := hM
            obtain ⟨ma, lv, a3, a4, a5, a6, a7, a8, a9, a10, a11, a12, a13, a14, rfl, -, -, -⟩ := hM
            exact nm_e (br_t h6 (br_t h10 (br_t h12 (br_f h15 (br_f h0 (R hM' hp))))))
      · obtain ⟨k, hk, ek⟩ := pk_andE x (m := 3) 2 (by decide)
        refine ⟨upd gv k (x >>> ((4 : Int32) &&& 31)), l, (g, Z), hok, hl, ?_⟩
        intro s post hM hp
        obtain ⟨ma, lv, a3, a4, a5, a6, a7, a8, a9, a10, a11, a12, a13, a14, rfl, hs, ho, hcv⟩ := hM
        refine nm_e (br_t h6 (br_t h10 (br_f h12 ?_)))
        rw [ek]
        exact bf_input hk (hp _ _ ⟨ma, lv, a3, a4, a5, a6, a7, a8, a9, a10, a11, a12, a13, a14, rfl, hs, ho, hcv⟩)
    · obtain ⟨a, ha, ea⟩ := pk_andE x (m := 7) 3 (by decide)
      obtain ⟨b, hb, eb⟩ := pk_andE ((x >>> ((3 : Int32) &&& 31)) &&& ((x >>> ((20 : Int32) &&& 31)) ||| 1)) (m := 3) 2 (by decide)
      have eb' := (bf_a3 (x >>> ((3 : Int32) &&& 31)) ((x >>> ((20 : Int32) &&& 31)) ||| 1)).trans eb
      obtain ⟨z, hz, ez⟩ := pk_andE (x >>> ((5 : Int32) &&& 31)) (m := 32767) 15 (by decide)
      obtain ⟨g', T⟩ := bf_three g ha hb hz
      refine ⟨gv, l, (g', Z), hok, hl, ?_⟩
      intro s post hM hp
      obtain ⟨ma, lv, a3, a4, a5, a6, a7, a8, a9, a10, a11, a12, a13, a14, rfl, hs, ho, hcv⟩ := hM
      refine nm_e (br_t h6 (br_f h10 ?_))
      rw [ea, eb', ez]
      exact T hcv (fun b5 h5 => hp _ _ ⟨ma, lv, a3, a4, b5, a6, a7, a8, a9, a10, a11, a12, a13, a14, rfl, hs, ho, h5⟩)
  · obtain ⟨a, ha, ea⟩ := pk_andE x (m := 7) 3 (by decide)
    obtain ⟨b, hb, eb⟩ := pk_andE (x >>> ((3 : Int32) &&& 31)) (m := 3) 2 (by decide)
    obtain ⟨z, hz, ez⟩ := pk_andE (x >>> ((5 : Int32) &&& 31)) (m := 31) 5 (by decide)
    refine ⟨gv, l, (upd g (a + 8 * b) (nI z), Z), hok, hl, ?_⟩
    intro s post hM hp
    obtain ⟨ma, lv, a3, a4, a5, a6, a7, a8, a9, a10, a11, a12, a13, a14, rfl, hs, ho, hcv⟩ := hM
    refine nm_e (br_f h6 ?_)
    rw [ea, eb, ez]
    exact bf_put ha hb hz hcv (fun r b5 h5 => hp _ _ ⟨ma, lv, a3, a4, b5, a6, a7, a8, a9, a10, a11, a12, a13, a14, rfl, hs, ho, h5⟩)
end
section
/-! ===== what the law looks at ===== -/
theorem bf_has {g : Nat → Int32} {c w e d h wr l ma lv : Int32} {a2 a3 a4 a5 a6 a7 a8 a9 a10 a11 a12 a13 a14 : Nat → Int32} {post : Int32 → Prop} (h1 : post 1) (h0 : bf_no g → post 0) : wpL_hasCode post (c, w, e, d, h, wr, l, ma, lv, g, a2, a3, a4, a5, a6, a7, a8, a9, a10, a11, a12, a13, a14) 26 := by
  refine pk_loop (σ := Unit) (fun n i _ => wL_hasCode_2 post 26 c w e d h wr l ma lv g a2 a3 a4 a5 a6 a7 a8 a9 a10 a11 a12 a13 a14 n (nI i)) (fun i _ => ∀ j, j < i → ¬ g j = 26) 32 0 () (by decide) (fun j hj => absurd hj (Nat.not_lt_zero j)) ?_ ?_
  · intro n s hI
    exact br_t (nI_le (a := 32) (Nat.le_refl 32) (by decide)) (h0 hI)
  · intro n i s hi hI hw
    refine br_f (nI_ge (b := 32) (by omega) (by decide)) ?_
    rw [pk_andN (n := i) (m := 7) (by omega) 3 (by decide), pk_shrN (n := i) (by omega) ((3 : Int32) &&& 31) 3 (by decide)]
    have h8 : i % 2 ^ 3 < 8 := by omega
    have h4 : i / 2 ^ 3 < 4 := by omega
    have e8 : i % 2 ^ 3 + 8 * (i / 2 ^ 3) = i := by omega
    unfold wpX_get
    dsimp only
    refine bf_bad h8 h4 (br_t rfl ?_)
    rw [bf_at, e8, nI_clamp (by omega)]
    refine ⟨vp_in_nI hi (by decide), br_c (fun z => h1) (fun z => nm_r (nI_1 i) (hw () (fun j hj => ?_)))⟩
    by_cases ej : j = i
    · rw [ej]
      exact z
    · exact hI j (by omega)
theorem bf_pile {L : List Int32} {i : Nat} {c w e d wr l ma lv : Int32} {a1 a2 a3 a4 a5 a6 a7 a8 a9 a10 a11 a12 a13 a14 : Nat → Int32} {post : Int32 → Prop} (hL : L.length ≤ 10) (hi : i < 16) (h1 : i < L.length → post (a3 i)) (h0 : ¬ i < L.length → post 0) : wpX_pile post (c, w, e, d, nI L.length, wr, l, ma, lv, a1, a2, a3, a4, a5, a6, a7, a8, a9, a10, a11, a12, a13, a14) (nI i) := by
  refine br_f (nI_pos (by omega)) ?_
  by_cases z : i < L.length
  · refine br_t (nI_lt z (by omega)) ⟨vp_in_nI (by omega) (by decide), ?_⟩
    rw [nI_clamp (by omega)]
    exact h1 z
  · exact br_f (nI_nlt (by omega) (by omega)) (h0 z)
theorem bf_outp {O : List Int32} {i : Nat} {c w e d h l ma lv : Int32} {a1 a2 a3 a4 a5 a6 a7 a8 a9 a10 a11 a12 a13 a14 : Nat → Int32} {post : Int32 → Prop} (hO : O.length ≤ 16) (hi : i < 16) (h1 : i < O.length → post (a4 i)) (h0 : ¬ i < O.length → post 0) : wpX_output post (c, w, e, d, h, nI O.length, l, ma, lv, a1, a2, a3, a4, a5, a6, a7, a8, a9, a10, a11, a12, a13, a14) (nI i) := by
  refine br_f (nI_pos (by omega)) ?_
  by_cases z : i < O.length
  · refine br_t (nI_lt z (by omega)) ⟨vp_in_nI (by omega) (by decide), ?_⟩
    rw [nI_clamp (by omega)]
    exact h1 z
  · exact br_f (nI_nlt (by omega) (by omega)) (h0 z)
theorem bf_equal {L O : List Int32} {c w e d l ma lv : Int32} {a1 a2 a3 a4 a5 a6 a7 a8 a9 a10 a11 a12 a13 a14 : Nat → Int32} {maz lvz : Int32} {a1z a2z a3z a4z a5z a6z a7z a8z a9z a10z a11z a12z a13z a14z : Nat → Int32} {post : Int32 → Prop} (hL : L.length ≤ 10) (hO : O.length ≤ 16) (hs : bf_stk L a3) (hsz : bf_stk L a3z) (ho : bf_stk O a4) (hoz : bf_stk O a4z) (hp : post 1) :
    wpL_equal post (c, w, e, d, nI L.length, nI O.length, l, ma, lv, a1, a2, a3, a4, a5, a6, a7, a8, a9, a10, a11, a12, a13, a14, c, w, e, d, nI L.length, nI O.length, l, maz, lvz, a1z, a2z, a3z, a4z, a5z, a6z, a7z, a8z, a9z, a10z, a11z, a12z, a13z, a14z) := by
  refine pk_loop (σ := Unit) (fun n i _ => wL_equal_2 post c w e d (nI L.length) (nI O.length) l ma lv a1 a2 a3 a4 a5 a6 a7 a8 a9 a10 a11 a12 a13 a14 c w e d (nI L.length) (nI O.length) l maz lvz a1z a2z a3z a4z a5z a6z a7z a8z a9z a10z a11z a12z a13z a14z n (nI i)) (fun i _ => True) 16 0 () (by decide) trivial ?_ ?_
  · intro n s hI
    exact br_t (nI_le (a := 16) (Nat.le_refl 16) (by decide)) (br_t rfl (br_t rfl (br_t rfl (br_t rfl (br_t rfl hp)))))
  · intro n i s hi hI hw
    refine br_f (nI_ge (b := 16) (by omega) (by decide)) ?_
    refine bf_pile hL hi (fun z => bf_pile hL hi (fun z2 => br_t (bf_stk_eq hs hsz i z) ?_) (fun z2 => absurd z z2)) (fun z => bf_pile hL hi (fun z2 => absurd z2 z) (fun z2 => br_t rfl ?_))
    · exact bf_outp hO hi (fun y => bf_outp hO hi (fun y2 => br_t (bf_stk_eq ho hoz i y) (nm_r (nI_1 i) (hw () trivial))) (fun y2 => absurd y y2)) (fun y => bf_outp hO hi (fun y2 => absurd y2 y) (fun y2 => br_t rfl (nm_r (nI_1 i) (hw () trivial))))
    · exact bf_outp hO hi (fun y => bf_outp hO hi (fun y2 => br_t (bf_stk_eq ho hoz i y) (nm_r (nI_1 i) (hw () trivial))) (fun y2 => absurd y y2)) (fun y => bf_outp hO hi (fun y2 => absurd y2 y) (fun y2 => br_t rfl (nm_r (nI_1 i) (hw () trivial))))
theorem bf_sound {gv : Nat → Int32} {l : Int32} {Y : bf_Y} {s : St1} {post : Int32 → Prop} (hok : bf_ok Y) (hl : l = 2 → Y.2.2.2.2.1 = 400) (hM : bf_M gv l Y s) (hp : post 1) : wpL_sound post s := by
  obtain ⟨h1, h2, hd, hL, hO, h6⟩ := hok
  obtain ⟨ma, lv, a3, a4, a5, a6, a7, a8, a9, a10, a11, a12, a13, a14, rfl, -, -, -⟩ := hM
  have h33 : wL_sound_33 post (nI Y.2.1) (nI Y.2.2.1) Y.2.2.2.1 (nI Y.2.2.2.2.1) (nI Y.2.2.2.2.2.1.length) (nI Y.2.2.2.2.2.2.length) l ma lv Y.1 gv a3 a4 a5 a6 a7 a8 a9 a10 a11 a12 a13 a14 :=
    br_f (nI_pos (by omega)) (br_f (nI_nlt (a := 16) hO (by decide)) (br_f (nI_pos (by omega)) (br_f (nI_nlt (a := 10) hL (by decide)) hp)))
  refine br_f (nI_pos (by omega)) (br_f (nI_nlt (a := 400) hd (by decide)) (br_c (fun z => br_t ?_ h33) (fun z => h33)))
  rw [hl z]
  rfl
def bf_dg (g : Nat → Int32) : Nat → Int32
  | 0 => 0
  | i + 1 => bf_dg g i + ((nI i + 1) * g i)
theorem bf_digest {g : Nat → Int32} {c w e d h wr l ma lv : Int32} {a2 a3 a4 a5 a6 a7 a8 a9 a10 a11 a12 a13 a14 : Nat → Int32} {post : Int32 → Prop} (hp : post (bf_dg g 32)) : wpX_digest post (c, w, e, d, h, wr, l, ma, lv, g, a2, a3, a4, a5, a6, a7, a8, a9, a10, a11, a12, a13, a14) := by
  refine pk_loop (σ := Unit) (fun n i _ => wX_digest_4 post c w e d h wr l ma lv g a2 a3 a4 a5 a6 a7 a8 a9 a10 a11 a12 a13 a14 n (bf_dg g i) (nI i)) (fun i _ => True) 32 0 () (by decide) trivial ?_ ?_
  · intro n s hI
    exact br_t (nI_le (a := 32) (Nat.le_refl 32) (by decide)) hp
  · intro n i s hi hI hw
    exact br_f (nI_ge (b := 32) (by omega) (by decide)) ⟨vp_in_nI hi (by decide), nm_r (e' := bf_dg g (i + 1)) (by rw [nI_clamp (by omega)]; rfl) (nm_r (nI_1 i) (hw () trivial))⟩
theorem bf_init {post : St1 → Prop} (hp : ∀ s, bf_M (fun _ => 0) 0 ((fun _ => 0), 0, 0, 0, 0, [], []) s → post s) : wpX_init post 14 702 (0, 0, 0, 0, 0, 0, 0, 0, 0) := by
  refine ⟨by decide, by decide, by decide, by decide, by decide, by decide, by decide, by decide, by decide, by decide, by decide, by decide, by decide, by decide, by decide, by decide, by decide, by decide, by decide, by decide, by decide, by decide, by decide, by decide, by decide, by decide, by decide, by decide, ?_⟩
  exact bf_drop (fun b5 h5 => hp _ ⟨_, _, _, _, b5, _, _, _, _, _, _, _, _, _, rfl, trivial, trivial, bf_drop_cv h5⟩)
end
section
/-! ===== the law ===== -/
theorem bf_fin (xs : Nat → Int32) (L : Nat) (hL : L ≤ 260) (kc ks n j : Nat) (hj : 2 * j ≤ L) (he : L ≤ 2 * j + 1) (gv : Nat → Int32) (l : Int32) (Y : bf_Y)
    {ma lv : Int32} {a3 a4 a5 a6 a7 a8 a9 a10 a11 a12 a13 a14 : Nat → Int32} {maz lvz : Int32} {a3z a4z a5z a6z a7z a8z a9z a10z a11z a12z a13z a14z : Nat → Int32} (hs : bf_stk Y.2.2.2.2.2.1 a3) (ho : bf_stk Y.2.2.2.2.2.2 a4) (hcv : bf_cv Y.1 a5 a6 a7 a8 a9 a10 a11 a12 a13 a14) (hsz : bf_stk Y.2.2.2.2.2.1 a3z) (hoz : bf_stk Y.2.2.2.2.2.2 a4z) (hcvz : bf_cv Y.1 a5z a6z a7z a8z a9z a10z a11z a12z a13z a14z) :
    wL_law_18 (fun r => r = 1) L xs kc ks (n + 1) (nI (2 * j)) (nI Y.2.1) (nI Y.2.2.1) Y.2.2.2.1 (nI Y.2.2.2.2.1) (nI Y.2.2.2.2.2.1.length) (nI Y.2.2.2.2.2.2.length) l ma lv Y.1 gv a3 a4 a5 a6 a7 a8 a9 a10 a11 a12 a13 a14 (nI Y.2.1) (nI Y.2.2.1) Y.2.2.2.1 (nI Y.2.2.2.2.1) (nI Y.2.2.2.2.2.1.length) (nI Y.2.2.2.2.2.2.length) l maz lvz Y.1 gv a3z a4z a5z a6z a7z a8z a9z a10z a11z a12z a13z a14z := by
  obtain ⟨Y1, k1, no1, R1⟩ := bf_run gv Y.1
  obtain ⟨Y2, k2, no2, R2⟩ := bf_run gv Y1.1
  have kl1 : Y1.2.2.2.1 = 2 → Y1.2.2.2.2.1 = 400 := k1.2.2.2.2.2
  have kl2 : Y2.2.2.2.1 = 2 → Y2.2.2.2.2.1 = 400 := k2.2.2.2.2.2
  refine br_t (by rw [nI_1]; exact nI_le he (by omega)) (bf_has ?_ (fun hno => ?_))
  · refine R1 rfl ⟨ma, lv, a3, a4, a5, a6, a7, a8, a9, a10, a11, a12, a13, a14, rfl, hs, ho, hcv⟩ (fun s m => ?_)
    have m' := m
    obtain ⟨map, lvp, a3p, a4p, a5p, a6p, a7p, a8p, a9p, a10p, a11p, a12p, a13p, a14p, rfl, s1, o1, c1⟩ := m
    refine R1 rfl ⟨maz, lvz, a3z, a4z, a5z, a6z, a7z, a8z, a9z, a10z, a11z, a12z, a13z, a14z, rfl, hsz, hoz, hcvz⟩ (fun s' m2 => ?_)
    obtain ⟨maq, lvq, a3q, a4q, a5q, a6q, a7q, a8q, a9q, a10q, a11q, a12q, a13q, a14q, rfl, s2, o2, c2⟩ := m2
    refine br_t rfl (bf_equal k1.2.2.2.1 k1.2.2.2.2.1 s1 s2 o1 o2 (br_f (by decide) (bf_sound k1 kl1 m' (br_f (by decide) (R2 rfl m' (fun s'' m3 => ?_))))))
    have m3' := m3
    obtain ⟨mar, lvr, a3r, a4r, a5r, a6r, a7r, a8r, a9r, a10r, a11r, a12r, a13r, a14r, rfl, s3, o3, c3⟩ := m3
    exact bf_sound k2 kl2 m3' (br_f (by decide) (br_f (by decide) rfl))
  · refine R1 rfl ⟨ma, lv, a3, a4, a5, a6, a7, a8, a9, a10, a11, a12, a13, a14, rfl, hs, ho, hcv⟩ (fun s m => ?_)
    have m' := m
    obtain ⟨map, lvp, a3p, a4p, a5p, a6p, a7p, a8p, a9p, a10p, a11p, a12p, a13p, a14p, rfl, s1, o1, c1⟩ := m
    refine R1 rfl ⟨maz, lvz, a3z, a4z, a5z, a6z, a7z, a8z, a9z, a10z, a11z, a12z, a13z, a14z, rfl, hsz, hoz, hcvz⟩ (fun s' m2 => ?_)
    obtain ⟨maq, lvq, a3q, a4q, a5q, a6q, a7q, a8q, a9q, a10q, a11q, a12q, a13q, a14q, rfl, s2, o2, c2⟩ := m2
    refine br_t rfl (bf_equal k1.2.2.2.1 k1.2.2.2.2.1 s1 s2 o1 o2 (br_f (by decide) (bf_sound k1 kl1 m' (br_f (by decide) (R1 (no1 hno) m' (fun s'' m3 => ?_))))))
    have m3' := m3
    obtain ⟨mar, lvr, a3r, a4r, a5r, a6r, a7r, a8r, a9r, a10r, a11r, a12r, a13r, a14r, rfl, s3, o3, c3⟩ := m3
    exact bf_sound k1 kl1 m3' (br_f (by decide) (br_t rfl (br_t rfl (bf_equal k1.2.2.2.1 k1.2.2.2.2.1 s3 s2 o3 o2 (br_f (by decide) (bf_digest (bf_digest (br_t rfl rfl))))))))
theorem bf_lp (xs : Nat → Int32) (L : Nat) (hL : L ≤ 260) (kc ks : Nat) : ∀ (n j : Nat), L ≤ 2 * j + n → 2 * j ≤ L → ∀ (gv : Nat → Int32) (l : Int32) (Y : bf_Y), bf_ok Y → (l = 2 → Y.2.2.2.2.1 = 400) →
    ∀ ⦃ma lv : Int32⦄ ⦃a3 a4 a5 a6 a7 a8 a9 a10 a11 a12 a13 a14 : Nat → Int32⦄ ⦃maz lvz : Int32⦄ ⦃a3z a4z a5z a6z a7z a8z a9z a10z a11z a12z a13z a14z : Nat → Int32⦄, bf_stk Y.2.2.2.2.2.1 a3 → bf_stk Y.2.2.2.2.2.2 a4 → bf_cv Y.1 a5 a6 a7 a8 a9 a10 a11 a12 a13 a14 → bf_stk Y.2.2.2.2.2.1 a3z → bf_stk Y.2.2.2.2.2.2 a4z → bf_cv Y.1 a5z a6z a7z a8z a9z a10z a11z a12z a13z a14z →
    wL_law_18 (fun r => r = 1) L xs kc ks (n + 1) (nI (2 * j)) (nI Y.2.1) (nI Y.2.2.1) Y.2.2.2.1 (nI Y.2.2.2.2.1) (nI Y.2.2.2.2.2.1.length) (nI Y.2.2.2.2.2.2.length) l ma lv Y.1 gv a3 a4 a5 a6 a7 a8 a9 a10 a11 a12 a13 a14 (nI Y.2.1) (nI Y.2.2.1) Y.2.2.2.1 (nI Y.2.2.2.2.1) (nI Y.2.2.2.2.2.1.length) (nI Y.2.2.2.2.2.2.length) l maz lvz Y.1 gv a3z a4z a5z a6z a7z a8z a9z a10z a11z a12z a13z a14z := by
  intro n
  induction n with
  | zero =>
    intro j hn hj gv l Y hok hl ma lv a3 a4 a5 a6 a7 a8 a9 a10 a11 a12 a13 a14 maz lvz a3z a4z a5z a6z a7z a8z a9z a10z a11z a12z a13z a14z hs ho hcv hsz hoz hcvz
    exact bf_fin xs L hL kc ks 0 j hj (by omega) gv l Y hs ho hcv hsz hoz hcvz
  | succ n ih =>
    intro j hn hj gv l Y hok hl ma lv a3 a4 a5 a6 a7 a8 a9 a10 a11 a12 a13 a14 maz lvz a3z a4z a5z a6z a7z a8z a9z a10z a11z a12z a13z a14z hs ho hcv hsz hoz hcvz
    by_cases he : L ≤ 2 * j + 1
    · exact bf_fin xs L hL kc ks (n + 1) j hj he gv l Y hs ho hcv hsz hoz hcvz
    have hv : vp_in (nI (2 * j)) L := vp_in_nI (by omega) (by omega)
    have hv1 : vp_in (nI (2 * j) + 1) L := by rw [nI_1]; exact vp_in_nI (by omega) (by omega)
    have e2 : nI (2 * j) + 2 = nI (2 * (j + 1)) := nI_add (2 * j) 2
    obtain ⟨gv', l', Y', y1, y2, T⟩ := bf_turn gv l Y hok hl (xs (nI (2 * j)).toNatClampNeg) (xs (nI (2 * j) + 1).toNatClampNeg)
    refine br_f (by rw [nI_1]; exact nI_ge (by omega) (by omega)) ⟨hv, hv1, T ⟨ma, lv, a3, a4, a5, a6, a7, a8, a9, a10, a11, a12, a13, a14, rfl, hs, ho, hcv⟩ (fun r s m => ?_)⟩
    have m' := m
    obtain ⟨map, lvp, a3p, a4p, a5p, a6p, a7p, a8p, a9p, a10p, a11p, a12p, a13p, a14p, rfl, s1, o1, c1⟩ := m
    refine ⟨hv, hv1, T ⟨maz, lvz, a3z, a4z, a5z, a6z, a7z, a8z, a9z, a10z, a11z, a12z, a13z, a14z, rfl, hsz, hoz, hcvz⟩ (fun r' s' m2 => ?_)⟩
    obtain ⟨maq, lvq, a3q, a4q, a5q, a6q, a7q, a8q, a9q, a10q, a11q, a12q, a13q, a14q, rfl, s2, o2, c2⟩ := m2
    exact bf_sound y1 y2 m' (br_f (by decide) (nm_r e2 (ih (j + 1) (by omega) (by omega) gv' l' Y' y1 y2 s1 o1 c1 s2 o2 c2)))
theorem i_vc (xs : Nat → Int32) (L : Nat) (hL : L ≤ 260) : wpL_law (fun r => r = 1) L xs := by
  refine ⟨14, 702, by decide, by decide, bf_init (fun s m => ?_)⟩
  obtain ⟨map, lvp, a3p, a4p, a5p, a6p, a7p, a8p, a9p, a10p, a11p, a12p, a13p, a14p, rfl, s1, o1, c1⟩ := m
  refine ⟨by decide, by decide, 14, 702, by decide, by decide, bf_init (fun s' m2 => ?_)⟩
  obtain ⟨maq, lvq, a3q, a4q, a5q, a6q, a7q, a8q, a9q, a10q, a11q, a12q, a13q, a14q, rfl, s2, o2, c2⟩ := m2
  exact ⟨L + 1, bf_lp xs L hL _ _ L 0 (by omega) (by omega) (fun _ => 0) 0 ((fun _ => 0), 0, 0, 0, 0, [], []) ⟨show 0 < 32 by decide, show 0 < 4 by decide, show 0 ≤ 400 by decide, show 0 ≤ 10 by decide, show 0 ≤ 16 by decide, fun z => absurd z (show ¬ (0 : Int32) = 2 by decide)⟩ (fun z => absurd z (by decide)) s1 o1 c1 s2 o2 c2⟩
end
