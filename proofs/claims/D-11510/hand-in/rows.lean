section
/-- field i (8 bits) of X -/
def qa_f (X i : Nat) : Nat := Nat.mod (Nat.shiftRight X (Nat.mul 8 i)) 256
/-- append at i: the fields below i stay -/
def qa_t (X i v : Nat) : Nat := Nat.lor (Nat.mod X (Nat.pow 2 (Nat.mul 8 i))) (Nat.shiftLeft v (Nat.mul 8 i))
/-- put into an empty field -/
def qa_u (X i v : Nat) : Nat := Nat.lor X (Nat.shiftLeft v (Nat.mul 8 i))
/-- replace a field -/
def qa_s (X i v : Nat) : Nat := Nat.xor X (Nat.shiftLeft (Nat.xor (qa_f X i) v) (Nat.mul 8 i))
theorem qa_fe (X i : Nat) : qa_f X i = (X >>> (8 * i)) % 2 ^ 8 := rfl
theorem qa_te (X i v : Nat) : qa_t X i v = (X % 2 ^ (8 * i)) ||| (v <<< (8 * i)) := rfl
theorem qa_ue (X i v : Nat) : qa_u X i v = X ||| (v <<< (8 * i)) := rfl
theorem qa_se' (X i v : Nat) : qa_s X i v = X ^^^ ((qa_f X i ^^^ v) <<< (8 * i)) := rfl
theorem qa_lt (X i : Nat) : qa_f X i < 256 := Nat.mod_lt _ (by decide)
theorem qa_f0 (i : Nat) : qa_f 0 i = 0 := by
  rw [qa_fe, Nat.zero_shiftRight, Nat.zero_mod]
theorem qa_fb (X i j : Nat) : (qa_f X i).testBit j = (decide (j < 8) && X.testBit (8 * i + j)) := by
  rw [qa_fe, Nat.testBit_mod_two_pow, Nat.testBit_shiftRight]
theorem qa_big {v j : Nat} (h : v < 256) (hj : 8 ≤ j) : v.testBit j = false :=
  Nat.testBit_lt_two_pow (Nat.lt_of_lt_of_le h (Nat.pow_le_pow_right (by decide) hj : 2 ^ 8 ≤ 2 ^ j))
theorem qa_tE {X i v : Nat} (h : v < 256) : qa_f (qa_t X i v) i = v := by
  apply Nat.eq_of_testBit_eq
  intro j
  rw [qa_fb, qa_te, Nat.testBit_or, Nat.testBit_mod_two_pow, Nat.testBit_shiftLeft, show 8 * i + j - 8 * i = j by omega, decide_eq_false (show ¬ 8 * i + j < 8 * i by omega), decide_eq_true (show 8 * i + j ≥ 8 * i by omega)]
  by_cases hj : j < 8
  · rw [decide_eq_true hj]
    simp
  · rw [decide_eq_false hj, qa_big h (by omega)]
    simp
theorem qa_tL {X i v j : Nat} (h : j < i) : qa_f (qa_t X i v) j = qa_f X j := by
  apply Nat.eq_of_testBit_eq
  intro b
  rw [qa_fb, qa_fb, qa_te, Nat.testBit_or, Nat.testBit_mod_two_pow, Nat.testBit_shiftLeft]
  by_cases hj : b < 8
  · rw [decide_eq_true hj, decide_eq_true (show 8 * j + b < 8 * i by omega), decide_eq_false (show ¬ 8 * j + b ≥ 8 * i by omega)]
    simp
  · rw [decide_eq_false hj]
    simp
theorem qa_uE {X i v : Nat} (h : v < 256) (h0 : qa_f X i = 0) : qa_f (qa_u X i v) i = v := by
  apply Nat.eq_of_testBit_eq
  intro j
  have hz : (decide (j < 8) && X.testBit (8 * i + j)) = false := by
    rw [← qa_fb, h0, Nat.zero_testBit]
  rw [qa_fb, qa_ue, Nat.testBit_or, Nat.testBit_shiftLeft, show 8 * i + j - 8 * i = j by omega, decide_eq_true (show 8 * i + j ≥ 8 * i by omega)]
  by_cases hj : j < 8
  · rw [decide_eq_true hj] at hz ⊢
    simp only [Bool.true_and] at hz ⊢
    rw [hz, Bool.false_or]
  · rw [decide_eq_false hj, qa_big h (by omega)]
    simp
theorem qa_out {v w i j b : Nat} (h : v < 256) (hj : j ≠ i) (hb : b < 8) (hw : w = v <<< (8 * i)) : w.testBit (8 * j + b) = false := by
  rw [hw, Nat.testBit_shiftLeft]
  by_cases hc : 8 * j + b ≥ 8 * i
  · rw [qa_big h (show 8 ≤ 8 * j + b - 8 * i by omega), Bool.and_false]
  · rw [decide_eq_false hc, Bool.false_and]
theorem qa_uN {X i v j : Nat} (h : v < 256) (hj : j ≠ i) : qa_f (qa_u X i v) j = qa_f X j := by
  apply Nat.eq_of_testBit_eq
  intro b
  rw [qa_fb, qa_fb, qa_ue, Nat.testBit_or]
  by_cases hb : b < 8
  · rw [qa_out h hj hb rfl, Bool.or_false]
  · rw [decide_eq_false hb, Bool.false_and, Bool.false_and]
theorem qa_x8 {v w : Nat} (h : v < 256) (hw : w < 256) : v ^^^ w < 256 := Nat.xor_lt_two_pow (n := 8) h hw
theorem qa_sE {X i v : Nat} (h : v < 256) : qa_f (qa_s X i v) i = v := by
  apply Nat.eq_of_testBit_eq
  intro j
  rw [qa_fb, qa_se', Nat.testBit_xor, Nat.testBit_shiftLeft, show 8 * i + j - 8 * i = j by omega, decide_eq_true (show 8 * i + j ≥ 8 * i by omega), Nat.testBit_xor, qa_fb]
  by_cases hj : j < 8
  · rw [decide_eq_true hj]
    simp only [Bool.true_and]
    cases X.testBit (8 * i + j) <;> cases v.testBit j <;> rfl
  · rw [decide_eq_false hj, qa_big h (by omega)]
    simp
theorem qa_sN {X i v j : Nat} (h : v < 256) (hj : j ≠ i) : qa_f (qa_s X i v) j = qa_f X j := by
  apply Nat.eq_of_testBit_eq
  intro b
  rw [qa_fb, qa_fb, qa_se', Nat.testBit_xor]
  by_cases hb : b < 8
  · rw [qa_out (qa_x8 (qa_lt X i) h) hj hb rfl, Bool.xor_false]
  · rw [decide_eq_false hb, Bool.false_and, Bool.false_and]

/-! the picture of the search: in continuation style, false where a bound is broken -/
/-- a pair p is reached at distance d: T lengths (field = length + 1), H and L the level -/
def qa_rh (T H L p d : Nat) (k : Nat → Nat → Nat → Bool) : Bool :=
  cond (Nat.beq (qa_f T p) 0) (cond (Nat.ble 224 H) false (k (qa_u T p (Nat.add d 1)) (Nat.add H 1) (qa_t L H p))) (k T H L)
theorem qa_rhE (T H L p d : Nat) (k : Nat → Nat → Nat → Bool) : qa_rh T H L p d k = cond (Nat.beq (qa_f T p) 0) (cond (Nat.ble 224 H) false (k (qa_u T p (d + 1)) (H + 1) (qa_t L H p))) (k T H L) := rfl
/-- is p among the fields i .. i + r - 1 of C -/
def qa_ic (C p : Nat) : Nat → Nat → Bool
  | 0, _ => false
  | r + 1, i => cond (Nat.beq (qa_f C i) p) true (qa_ic C p r (Nat.add i 1))
theorem qa_icE (C p r i : Nat) : qa_ic C p (r + 1) i = cond (Nat.beq (qa_f C i) p) true (qa_ic C p r (i + 1)) := rfl
/-- keepComing: state s, nodes m; N and C the next level -/
def qa_kc (T s m : Nat) (k : Nat → Nat → Bool) : Nat → Nat → Nat → Nat → Bool
  | 0, _, N, C => k N C
  | r + 1, n, N, C =>
    cond (Nat.beq (Nat.mod (Nat.shiftRight m n) 2) 1)
      (cond (Nat.beq (qa_f T (Nat.add (Nat.mul s 8) n)) 0)
        (cond (Nat.ble 224 N) false
          (cond (qa_ic C (Nat.add (Nat.mul s 8) n) N 0) (qa_kc T s m k r (Nat.add n 1) N C)
            (qa_kc T s m k r (Nat.add n 1) (Nat.add N 1) (qa_t C N (Nat.add (Nat.mul s 8) n)))))
        (qa_kc T s m k r (Nat.add n 1) N C))
      (qa_kc T s m k r (Nat.add n 1) N C)
theorem qa_kcE (T s m : Nat) (k : Nat → Nat → Bool) (r n N C : Nat) : qa_kc T s m k (r + 1) n N C =
    cond (Nat.beq ((m >>> n) % 2) 1)
      (cond (Nat.beq (qa_f T (s * 8 + n)) 0)
        (cond (Nat.ble 224 N) false
          (cond (qa_ic C (s * 8 + n) N 0) (qa_kc T s m k r (n + 1) N C)
            (qa_kc T s m k r (n + 1) (N + 1) (qa_t C N (s * 8 + n)))))
        (qa_kc T s m k r (n + 1) N C))
      (qa_kc T s m k r (n + 1) N C) := rfl
/-- follow: kind k (0 an edge, 1 an edge backwards, 2 silent, 3 + n at node n) to state t from node n -/
def qa_fo (F B T H L N C k t n d : Nat) (K : Nat → Nat → Nat → Nat → Nat → Bool) : Bool :=
  cond (Nat.ble 28 t) false
    (cond (Nat.beq k 2) (qa_rh T H L (Nat.add (Nat.mul t 8) n) d (fun T H L => K T H L N C))
      (cond (Nat.beq k (Nat.add 3 n)) (qa_rh T H L (Nat.add (Nat.mul t 8) n) d (fun T H L => K T H L N C))
        (cond (Nat.beq k 0) (qa_kc T t (qa_f F n) (fun N C => K T H L N C) 8 0 N C)
          (cond (Nat.beq k 1) (qa_kc T t (qa_f B n) (fun N C => K T H L N C) 8 0 N C)
            (K T H L N C)))))
theorem qa_foE (F B T H L N C k t n d : Nat) (K : Nat → Nat → Nat → Nat → Nat → Bool) : qa_fo F B T H L N C k t n d K =
  cond (Nat.ble 28 t) false
    (cond (Nat.beq k 2) (qa_rh T H L (t * 8 + n) d (fun T H L => K T H L N C))
      (cond (Nat.beq k (3 + n)) (qa_rh T H L (t * 8 + n) d (fun T H L => K T H L N C))
        (cond (Nat.beq k 0) (qa_kc T t (qa_f F n) (fun N C => K T H L N C) 8 0 N C)
          (cond (Nat.beq k 1) (qa_kc T t (qa_f B n) (fun N C => K T H L N C) 8 0 N C)
            (K T H L N C))))) := rfl
/-- one pair of the level: all moves from state s -/
def qa_wm (F B K Fr To s n d : Nat) (k : Nat → Nat → Nat → Nat → Nat → Bool) : Nat → Nat → Nat → Nat → Nat → Nat → Nat → Bool
  | 0, _, T, H, L, N, C => k T H L N C
  | r + 1, m, T, H, L, N, C =>
    cond (Nat.beq (qa_f Fr m) s)
      (qa_fo F B T H L N C (qa_f K m) (qa_f To m) n d (fun T H L N C => qa_wm F B K Fr To s n d k r (Nat.add m 1) T H L N C))
      (qa_wm F B K Fr To s n d k r (Nat.add m 1) T H L N C)
theorem qa_wmE (F B K Fr To s n d : Nat) (k : Nat → Nat → Nat → Nat → Nat → Bool) (r m T H L N C : Nat) : qa_wm F B K Fr To s n d k (r + 1) m T H L N C =
    cond (Nat.beq (qa_f Fr m) s)
      (qa_fo F B T H L N C (qa_f K m) (qa_f To m) n d (fun T H L N C => qa_wm F B K Fr To s n d k r (m + 1) T H L N C))
      (qa_wm F B K Fr To s n d k r (m + 1) T H L N C) := rfl
/-- one level -/
def qa_wl (F B K Fr To V d : Nat) (k : Nat → Nat → Nat → Bool) : Nat → Nat → Nat → Nat → Nat → Nat → Nat → Bool
  | 0, _, _, _, _, _, _ => false
  | f + 1, i, T, H, L, N, C =>
    cond (Nat.ble H i) (k T N C)
      (qa_wm F B K Fr To (Nat.div (qa_f L i) 8) (Nat.mod (qa_f L i) 8) d (fun T H L N C => qa_wl F B K Fr To V d k f (Nat.add i 1) T H L N C) V 0 T H L N C)
theorem qa_wlE (F B K Fr To V d : Nat) (k : Nat → Nat → Nat → Bool) (f i T H L N C : Nat) : qa_wl F B K Fr To V d k (f + 1) i T H L N C =
    cond (Nat.ble H i) (k T N C)
      (qa_wm F B K Fr To (qa_f L i / 8) (qa_f L i % 8) d (fun T H L N C => qa_wl F B K Fr To V d k f (i + 1) T H L N C) V 0 T H L N C) := rfl
/-- the next level is taken over -/
def qa_s8 (C d : Nat) (k : Nat → Nat → Nat → Bool) : Nat → Nat → Nat → Nat → Nat → Bool
  | 0, _, T, H, L => k T H L
  | r + 1, i, T, H, L => qa_rh T H L (qa_f C i) d (fun T H L => qa_s8 C d k r (Nat.add i 1) T H L)
theorem qa_s8E (C d : Nat) (k : Nat → Nat → Nat → Bool) (r i T H L : Nat) : qa_s8 C d k (r + 1) i T H L = qa_rh T H L (qa_f C i) d (fun T H L => qa_s8 C d k r (i + 1) T H L) := rfl
/-- the levels -/
def qa_s5 (F B K Fr To V : Nat) (k : Nat → Bool) : Nat → Nat → Nat → Nat → Nat → Bool
  | 0, _, _, _, _ => false
  | f + 1, d, T, H, L =>
    cond (Nat.ble H 0) (k T)
      (cond (Nat.ble 200 d) false
        (qa_wl F B K Fr To V d (fun T N C => qa_s8 C (Nat.add d 1) (fun T H L => qa_s5 F B K Fr To V k f (Nat.add d 1) T H L) N 0 T 0 0) 225 0 T H L 0 0))
theorem qa_s5E (F B K Fr To V : Nat) (k : Nat → Bool) (f d T H L : Nat) : qa_s5 F B K Fr To V k (f + 1) d T H L =
    cond (Nat.ble H 0) (k T)
      (cond (Nat.ble 200 d) false
        (qa_wl F B K Fr To V d (fun T N C => qa_s8 C (d + 1) (fun T H L => qa_s5 F B K Fr To V k f (d + 1) T H L) N 0 T 0 0) 225 0 T H L 0 0)) := rfl
/-- the search from node a, start state st -/
def qa_se (F B K Fr To V st a : Nat) (k : Nat → Bool) : Bool :=
  cond (Nat.ble 28 st) false (qa_rh 0 0 0 (Nat.add (Nat.mul st 8) a) 0 (fun T H L => qa_s5 F B K Fr To V k 30 0 T H L))
theorem qa_seE (F B K Fr To V st a : Nat) (k : Nat → Bool) : qa_se F B K Fr To V st a k =
  cond (Nat.ble 28 st) false (qa_rh 0 0 0 (st * 8 + a) 0 (fun T H L => qa_s5 F B K Fr To V k 30 0 T H L)) := rfl
/-- the lengths to the last state en are those of D -/
def qa_ck (T en : Nat) (D : Nat → Nat) : Nat → Bool
  | 0 => true
  | b + 1 => cond (Nat.beq (qa_f T (Nat.add (Nat.mul en 8) b)) (D b)) (qa_ck T en D b) false
/-- a kind in the program's numbers, the label being l -/
def qa_enc (l k : Nat) : Nat := cond (Nat.beq k 0) l (cond (Nat.beq k 1) (3 + l) (k + 4))

/-! reading the picture's branches -/
theorem qa_be {x y : Nat} {a b : Bool} (h : cond (Nat.beq x y) a b = true) : (x = y ∧ a = true) ∨ (x ≠ y ∧ b = true) := by
  cases e : Nat.beq x y with
  | true =>
    rw [e] at h
    exact Or.inl ⟨Nat.eq_of_beq_eq_true e, h⟩
  | false =>
    rw [e] at h
    exact Or.inr ⟨Nat.ne_of_beq_eq_false e, h⟩
theorem qa_bl {x y : Nat} {a b : Bool} (h : cond (Nat.ble x y) a b = true) : (x ≤ y ∧ a = true) ∨ (y < x ∧ b = true) := by
  cases e : Nat.ble x y with
  | true =>
    rw [e] at h
    exact Or.inl ⟨Nat.le_of_ble_eq_true e, h⟩
  | false =>
    rw [e] at h
    refine Or.inr ⟨?_, h⟩
    rcases Nat.lt_or_ge y x with z | z
    · exact z
    · rw [Nat.ble_eq_true_of_le z] at e
      exact absurd e (by decide)
theorem qa_nf {A : Prop} (h : false = true) : A := absurd h (by decide)
theorem qa_ckB {T en : Nat} {D : Nat → Nat} : ∀ n, qa_ck T en D n = true → ∀ b, b < n → qa_f T (en * 8 + b) = D b
  | 0, _, b, hb => absurd hb (by omega)
  | n + 1, h, b, hb => by
    rcases qa_be (show cond (Nat.beq (qa_f T (en * 8 + n)) (D n)) (qa_ck T en D n) false = true from h) with ⟨e, h⟩ | ⟨_, h⟩
    · rcases Nat.lt_or_ge b n with z | z
      · exact qa_ckB n h b z
      · rw [show b = n by omega]
        exact e
    · exact qa_nf h
end
section
section
variable {f1 f2 f3 f4 f5 f6 : Int32} {a1 a2 a3 a4 a5 a6 a7 a8 a9 a10 : Nat → Int32}
theorem qb_neg : ∀ v, v < 256 → (nI v - 1 < 0 ↔ v = 0) := by decide +kernel
theorem qb_nn : ∀ v, v < 256 → (0 ≤ nI v - 1 ↔ v ≠ 0) := by decide +kernel
theorem qb_sc : ∀ n, n < 8 → ((nI n &&& 31).toBitVec.smod 32).toNat = n := by decide +kernel
theorem qb_bit {m n : Nat} (hm : m < 256) (hn : n < 8) : (nI m >>> (nI n &&& 31)) &&& 1 = nI ((m >>> n) % 2) := by
  rw [pk_shrN (by omega) _ n (qb_sc n hn), pk_andN (Nat.lt_of_le_of_lt (Nat.div_le_self _ _) (by omega)) 1 (by decide), Nat.shiftRight_eq_div_pow]
theorem qb_pr (s n : Nat) : nI s * 8 + nI n = nI (s * 8 + n) := by
  show nI s * nI 8 + nI n = _
  rw [pk_mul, nI_add]
theorem qb_dm {x : Nat} (h : x < 2 ^ 31) : nI x / 8 * 8 + (nI x - nI x / 8 * 8) = nI x := by
  show nI x / nI 8 * nI 8 + (nI x - nI x / nI 8 * nI 8) = _
  rw [pk_rem h (by decide) (by decide), pk_div h (by decide) (by decide), pk_mul, nI_add]
  exact congrArg nI (Nat.div_add_mod' x 8)
/-- lengths: field = length + 1 -/
def qb_T (T : Nat) (a : Nat → Int32) : Prop := ∀ p, p < 224 → a p = nI (qa_f T p) - 1
/-- a list of pairs -/
def qb_A (H L : Nat) (a : Nat → Int32) : Prop := ∀ i, i < H → a i = nI (qa_f L i) ∧ qa_f L i < 224
/-- the scratch of a search -/
def qb_R (T H L N C : Nat) (a8 a9 a10 : Nat → Int32) : Prop := H ≤ 224 ∧ N ≤ 224 ∧ qb_T T a8 ∧ qb_A H L a9 ∧ qb_A N C a10
/-- the graph's rows of label l -/
def qb_G (l F B : Nat) (a1 a2 : Nat → Int32) : Prop := ∀ n, n < 8 → a1 (l * 8 + n) = nI (qa_f F n) ∧ a2 (l * 8 + n) = nI (qa_f B n)
/-- the moves -/
def qb_M (l V K Fr To : Nat) (a3 a4 a5 : Nat → Int32) : Prop := ∀ m, m < V → a3 m = nI (qa_enc l (qa_f K m)) ∧ a4 m = nI (qa_f Fr m) ∧ a5 m = nI (qa_f To m)
theorem qb_add {H L p : Nat} {a : Nat → Int32} (hL : qb_A H L a) (hp : p < 224) : qb_A (H + 1) (qa_t L H p) (upd a H (nI p)) := by
  intro i hi
  by_cases e : i = H
  · subst e
    rw [pk_us, qa_tE (by omega)]
    exact ⟨rfl, hp⟩
  · rw [pk_un e, qa_tL (by omega)]
    exact hL i (by omega)
theorem qb_put {T p d : Nat} {a : Nat → Int32} (hT : qb_T T a) (e : qa_f T p = 0) (hd : d < 255) : qb_T (qa_u T p (d + 1)) (upd a p (nI d)) := by
  intro q hq
  by_cases e2 : q = p
  · subst e2
    rw [pk_us, qa_uE (by omega) e, nI_pred]
  · rw [pk_un e2, qa_uN (by omega) e2]
    exact hT q hq
theorem qb_rh {post : St2 → Prop} {T H L p d : Nat} {p0 p1 p2 : Int32} {k : Nat → Nat → Nat → Bool} (hp : p0 * 8 + p1 = nI p) (hlt : p < 224) (hd : p2 = nI d) (hd' : d < 255) (hH : f5 = nI H) (hH' : H ≤ 224) (hT : qb_T T a8) (hL : qb_A H L a9)
    (h : qa_rh T H L p d k = true)
    (P : ∀ (T H L : Nat) (a8 a9 : Nat → Int32), H ≤ 224 → qb_T T a8 → qb_A H L a9 → k T H L = true → post (f1, f2, f3, f4, nI H, f6, a1, a2, a3, a4, a5, a6, a7, a8, a9, a10)) :
    wpX_reachHere post (f1, f2, f3, f4, f5, f6, a1, a2, a3, a4, a5, a6, a7, a8, a9, a10) p0 p1 p2 := by
  subst hd hH
  unfold wpX_reachHere
  refine nm_r hp ⟨pk_in p 224 hlt, ?_⟩
  have hf := qa_lt T p
  rw [qa_rhE] at h
  rcases qa_be h with ⟨e, h⟩ | ⟨e, h⟩
  · rcases qa_bl h with ⟨_, h⟩ | ⟨hH2, h⟩
    · exact qa_nf h
    · refine br_t (by rw [nI_clamp (by omega), hT p hlt]; exact (qb_neg _ hf).mpr e) ⟨pk_in p 224 hlt, nm_e ⟨pk_in H 224 hH2, nm_e (nm_r (nI_1 H) (P _ _ _ _ _ (by omega) ?_ ?_ h))⟩⟩
      · rw [nI_clamp (by omega)]
        exact qb_put hT e hd'
      · rw [nI_clamp (by omega)]
        exact qb_add hL hlt
  · exact br_f (by rw [nI_clamp (by omega), hT p hlt]; exact fun z => e ((qb_neg _ hf).mp z)) (P _ _ _ _ _ hH' hT hL h)
theorem qb_ic2 {q : Int32 → Prop} {C p N : Nat} (hC : qb_A N C a10) (hN : N ≤ 224) (hp : p < 224) : ∀ r i, i + r = N → q (cond (qa_ic C p r i) 1 0) → wX_isComing_2 q (nI p) f1 f2 f3 f4 f5 (nI N) a1 a2 a3 a4 a5 a6 a7 a8 a9 a10 (r + 1) (nI i) := by
  intro r
  induction r with
  | zero =>
    intro i hi hq
    exact pk_le N i (fun _ => hq) (fun z => absurd z (by omega))
  | succ r ih =>
    intro i hi hq
    have hf := qa_lt C i
    refine pk_le N i (fun z => absurd z (by omega)) (fun _ => ⟨pk_in i 224 (by omega), ?_⟩)
    have he : a10 (nI i).toNatClampNeg = nI (qa_f C i) := by
      rw [nI_clamp (by omega)]
      exact (hC i (by omega)).1
    rw [qa_icE] at hq
    cases e : Nat.beq (qa_f C i) p with
    | true =>
      rw [e] at hq
      refine br_t ?_ hq
      rw [he, Nat.eq_of_beq_eq_true e]
    | false =>
      rw [e] at hq
      refine br_f ?_ (nm_r (nI_1 i) (ih (i + 1) (by omega) hq))
      rw [he]
      exact fun z => Nat.ne_of_beq_eq_false e ((nI_eq (by omega) (by omega)).mp z)
theorem qb_ic {q : Int32 → Prop} {C p N : Nat} (hC : qb_A N C a10) (hN : N ≤ 224) (hp : p < 224) (hq : q (cond (qa_ic C p N 0) 1 0)) : wpX_isComing q (f1, f2, f3, f4, f5, nI N, a1, a2, a3, a4, a5, a6, a7, a8, a9, a10) (nI p) := by
  unfold wpX_isComing
  exact ⟨N + 1, qb_ic2 hC hN hp N 0 (by omega) hq⟩
theorem qb_kc2 {post : St2 → Prop} {T s m : Nat} {k : Nat → Nat → Bool} (hs : s < 28) (hm : m < 256) (hT : qb_T T a8)
    (P : ∀ (N C : Nat) (a10 : Nat → Int32), N ≤ 224 → qb_A N C a10 → k N C = true → post (f1, f2, f3, f4, f5, nI N, a1, a2, a3, a4, a5, a6, a7, a8, a9, a10)) :
    ∀ (r n N C : Nat) (a10 : Nat → Int32), n + r = 8 → N ≤ 224 → qb_A N C a10 → qa_kc T s m k r n N C = true → wX_keepComing_2 post (nI s) (nI m) f1 f2 f3 f4 f5 (r + 1) (nI n) (nI N) a1 a2 a3 a4 a5 a6 a7 a8 a9 a10 := by
  intro r
  induction r with
  | zero =>
    intro n N C a10 hn hN hC h
    exact pk_le 8 n (fun _ => P N C a10 hN hC h) (fun z => absurd z (by omega))
  | succ r ih =>
    intro n N C a10 hn hN hC h
    rw [qa_kcE] at h
    have go : ∀ (N C : Nat) (a10 : Nat → Int32), N ≤ 224 → qb_A N C a10 → qa_kc T s m k r (n + 1) N C = true → ∀ x : Int32, x = nI n + 1 → wX_keepComing_2 post (nI s) (nI m) f1 f2 f3 f4 f5 (r + 1) x (nI N) a1 a2 a3 a4 a5 a6 a7 a8 a9 a10 :=
      fun N C a10 hN hC h x ex => by
        rw [ex, nI_1]
        exact ih (n + 1) N C a10 (by omega) hN hC h
    have hf := qa_lt T (s * 8 + n)
    refine pk_le 8 n (fun z => absurd z (by omega)) (fun _ => nm_r (qb_pr s n) ?_)
    rcases qa_be h with ⟨e, h⟩ | ⟨e, h⟩
    · refine br_t (by rw [qb_bit hm (by omega), e]; rfl) ⟨pk_in (s * 8 + n) 224 (by omega), ?_⟩
      rcases qa_be h with ⟨e2, h⟩ | ⟨e2, h⟩
      · rcases qa_bl h with ⟨_, h⟩ | ⟨hN2, h⟩
        · exact qa_nf h
        · refine br_f (by rw [nI_clamp (by omega), hT _ (by omega)]; exact fun z => (qb_nn _ hf).mp z e2) (pk_le 224 N (fun z => absurd z (by omega)) (fun _ => ?_))
          refine qb_ic (C := C) (p := s * 8 + n) hC hN (by omega) ?_
          cases hic : qa_ic C (s * 8 + n) N 0 with
          | true =>
            rw [hic] at h
            exact br_f (by decide) (go N C a10 hN hC h)
          | false =>
            rw [hic] at h
            refine br_t rfl ⟨pk_in N 224 hN2, nm_r (e' := upd a10 N (nI (s * 8 + n))) (by rw [nI_clamp (by omega)]) (nm_r (nI_1 N) ?_)⟩
            exact go (N + 1) _ _ (by omega) (qb_add hC (by omega)) h
      · exact br_t (by rw [nI_clamp (by omega), hT _ (by omega)]; exact (qb_nn _ hf).mpr e2) (go N C a10 hN hC h)
    · refine br_f ?_ (go N C a10 hN hC h)
      rw [qb_bit hm (by omega)]
      exact fun z => e ((nI_eq (a := (m >>> n) % 2) (b := 1) (by omega) (by omega)).mp z)
theorem qb_kc {post : St2 → Prop} {T s m N C : Nat} {p0 p1 : Int32} {k : Nat → Nat → Bool} (h0 : p0 = nI s) (h1 : p1 = nI m) (hs : s < 28) (hm : m < 256) (hN : N ≤ 224) (hT : qb_T T a8) (hC : qb_A N C a10) (h : qa_kc T s m k 8 0 N C = true)
    (P : ∀ (N C : Nat) (a10 : Nat → Int32), N ≤ 224 → qb_A N C a10 → k N C = true → post (f1, f2, f3, f4, f5, nI N, a1, a2, a3, a4, a5, a6, a7, a8, a9, a10)) :
    wpX_keepComing post (f1, f2, f3, f4, f5, nI N, a1, a2, a3, a4, a5, a6, a7, a8, a9, a10) p0 p1 := by
  subst h0 h1
  unfold wpX_keepComing
  exact ⟨9, qb_kc2 hs hm hT P 8 0 N C a10 rfl hN hC h⟩
theorem qb_e2 {l k : Nat} (h0 : k ≠ 0) (h1 : k ≠ 1) : qa_enc l k = k + 4 := by
  unfold qa_enc
  cases e : Nat.beq k 0 with
  | true => exact absurd (Nat.eq_of_beq_eq_true e) h0
  | false =>
    cases e1 : Nat.beq k 1 with
    | true => exact absurd (Nat.eq_of_beq_eq_true e1) h1
    | false => rfl
theorem qb_ec {l : Nat} (hl : l < 3) (k : Nat) : (k = 0 ∧ qa_enc l k = l) ∨ (k = 1 ∧ qa_enc l k = 3 + l) ∨ (2 ≤ k ∧ qa_enc l k = k + 4) := by
  by_cases h0 : k = 0
  · subst h0
    exact Or.inl ⟨rfl, rfl⟩
  · by_cases h1 : k = 1
    · subst h1
      exact Or.inr (Or.inl ⟨rfl, rfl⟩)
    · exact Or.inr (Or.inr ⟨by omega, qb_e2 h0 h1⟩)
theorem qb_fo {post : St2 → Prop} {l F B V K Fr To T H L N C m n d : Nat} {k : Nat → Nat → Nat → Nat → Nat → Bool} (hl : l < 3) (hV : V ≤ 56) (hG : qb_G l F B a1 a2) (hM : qb_M l V K Fr To a3 a4 a5) (hmV : m < V) (hn : n < 8) (hd : d < 255) (hR : qb_R T H L N C a8 a9 a10)
    (h : qa_fo F B T H L N C (qa_f K m) (qa_f To m) n d k = true)
    (P : ∀ (T H L N C : Nat) (a8 a9 a10 : Nat → Int32), qb_R T H L N C a8 a9 a10 → k T H L N C = true → post (f1, f2, f3, f4, nI H, nI N, a1, a2, a3, a4, a5, a6, a7, a8, a9, a10)) :
    wpX_follow post (f1, f2, f3, f4, nI H, nI N, a1, a2, a3, a4, a5, a6, a7, a8, a9, a10) (nI m) (nI n) (nI d) := by
  have hR0 := hR
  obtain ⟨hH, hN, hT, hL, hC⟩ := hR
  obtain ⟨hK, _, hTo⟩ := hM m hmV
  have hk := qa_lt K m
  have ht := qa_lt To m
  rw [qa_foE] at h
  rcases qa_bl h with ⟨_, h⟩ | ⟨ht28, h⟩
  · exact qa_nf h
  have hto : a5 (nI m).toNatClampNeg = nI (qa_f To m) := by
    rw [nI_clamp (by omega)]
    exact hTo
  have silent : qa_rh T H L (qa_f To m * 8 + n) d (fun T H L => k T H L N C) = true → wX_follow_24 post (nI m) (nI n) (nI d) f1 f2 f3 f4 (nI H) (nI N) a1 a2 a3 a4 a5 a6 a7 a8 a9 a10 := by
    intro h
    unfold wX_follow_24
    exact ⟨pk_in m 56 (by omega), qb_rh (by rw [hto, qb_pr]) (by omega) rfl hd rfl hH hT hL h (fun T H L a8 a9 h1 h2 h3 h4 => P T H L N C a8 a9 a10 ⟨h1, hN, h2, h3, hC⟩ h4)⟩
  have he := qb_ec hl (qa_f K m)
  unfold wpX_follow
  refine ⟨pk_in m 56 (by omega), nm_r (e' := nI (qa_enc l (qa_f K m))) (by rw [nI_clamp (by omega)]; exact hK) ?_⟩
  rcases qa_be h with ⟨e, h⟩ | ⟨e, h⟩
  · refine pk_eq (qa_enc l (qa_f K m)) 6 (fun _ => silent h) (fun z => absurd z (by omega))
  · refine pk_eq (qa_enc l (qa_f K m)) 6 (fun z => absurd z (by omega)) (fun _ => ?_)
    have e7 : 7 + nI n = nI (7 + n) := by
      show nI 7 + nI n = _
      rw [nI_add]
    rcases qa_be h with ⟨e2, h⟩ | ⟨e2, h⟩
    · exact pk_eq (qa_enc l (qa_f K m)) (7 + n) (fun _ => silent h) (fun z => absurd z (by omega)) rfl e7
    · refine pk_eq (qa_enc l (qa_f K m)) (7 + n) (fun z => absurd z (by omega)) (fun _ => ?_) rfl e7
      rcases qa_be h with ⟨e3, h⟩ | ⟨e3, h⟩
      · have ex : qa_enc l (qa_f K m) = l := by omega
        rw [ex]
        refine pk_le 3 l (fun z => absurd z (by omega)) (fun _ => ⟨pk_in m 56 (by omega), pk_in (l * 8 + n) 24 (by omega) (qb_pr l n), ?_⟩)
        refine qb_kc hto (m := qa_f F n) ?_ ht28 (qa_lt F n) hN hT hC h (fun N C a10 h1 h2 h3 => P T H L N C a8 a9 a10 ⟨hH, h1, hT, hL, h2⟩ h3)
        rw [qb_pr, nI_clamp (by omega)]
        exact (hG n hn).1
      · rcases qa_be h with ⟨e4, h⟩ | ⟨e4, h⟩
        · have ex : qa_enc l (qa_f K m) = 3 + l := by omega
          rw [ex]
          have e5 : (nI (3 + l) - 3) * 8 + nI n = nI (l * 8 + n) := by
            rw [show (3 : Int32) = nI 3 from rfl, pk_sub (by omega), show 3 + l - 3 = l by omega, qb_pr]
          refine pk_le 3 (3 + l) (fun _ => pk_le 6 (3 + l) (fun z => absurd z (by omega)) (fun _ => ⟨pk_in m 56 (by omega), pk_in (l * 8 + n) 24 (by omega) e5, ?_⟩)) (fun z => absurd z (by omega))
          refine qb_kc hto (m := qa_f B n) ?_ ht28 (qa_lt B n) hN hT hC h (fun N C a10 h1 h2 h3 => P T H L N C a8 a9 a10 ⟨hH, h1, hT, hL, h2⟩ h3)
          rw [e5, nI_clamp (by omega)]
          exact (hG n hn).2
        · exact pk_le 3 (qa_enc l (qa_f K m)) (fun _ => pk_le 6 (qa_enc l (qa_f K m)) (fun _ => P T H L N C a8 a9 a10 hR0 h) (fun z => absurd z (by omega))) (fun z => absurd z (by omega))
theorem qb_wm {post : St2 → Prop} {J : Int32 → Int32 → Int32 → Int32 → Int32 → Int32 → Int32 → (Nat → Int32) → (Nat → Int32) → (Nat → Int32) → (Nat → Int32) → (Nat → Int32) → (Nat → Int32) → (Nat → Int32) → (Nat → Int32) → (Nat → Int32) → (Nat → Int32) → Prop} {x2 : Int32} {l F B V K Fr To s n d : Nat} {k : Nat → Nat → Nat → Nat → Nat → Bool} (hl : l < 3) (hV : V ≤ 56) (hG : qb_G l F B a1 a2) (hM : qb_M l V K Fr To a3 a4 a5) (hs : s < 256) (hn : n < 8) (hd : d < 255)
    (P : ∀ (T H L N C : Nat) (a8 a9 a10 : Nat → Int32), qb_R T H L N C a8 a9 a10 → k T H L N C = true → ∀ x : Int32, x = x2 + 1 → J x f1 f2 (nI V) f4 (nI H) (nI N) a1 a2 a3 a4 a5 a6 a7 a8 a9 a10) :
    ∀ (r m T H L N C : Nat) (a8 a9 a10 : Nat → Int32), m + r = V → qb_R T H L N C a8 a9 a10 → qa_wm F B K Fr To s n d k r m T H L N C = true → wX_workLevel_39 post J (nI d) x2 (nI s) (nI n) (r + 1) (nI m) f1 f2 (nI V) f4 (nI H) (nI N) a1 a2 a3 a4 a5 a6 a7 a8 a9 a10 := by
  intro r
  induction r with
  | zero =>
    intro m T H L N C a8 a9 a10 hm hR h
    exact pk_le V m (fun _ => P T H L N C a8 a9 a10 hR h) (fun z => absurd z (by omega))
  | succ r ih =>
    intro m T H L N C a8 a9 a10 hm hR h
    rw [qa_wmE] at h
    have hf := qa_lt Fr m
    have hfr : a4 (nI m).toNatClampNeg = nI (qa_f Fr m) := by
      rw [nI_clamp (by omega)]
      exact (hM m (by omega)).2.1
    refine pk_le V m (fun z => absurd z (by omega)) (fun _ => ⟨pk_in m 56 (by omega), ?_⟩)
    rcases qa_be h with ⟨e, h⟩ | ⟨e, h⟩
    · exact br_t (by rw [hfr, e]) (qb_fo hl hV hG hM (by omega) hn hd hR h (fun T H L N C a8 a9 a10 hR h => nm_r (nI_1 m) (ih (m + 1) T H L N C a8 a9 a10 (by omega) hR h)))
    · exact br_f (by rw [hfr]; exact fun z => e ((nI_eq (by omega) (by omega)).mp z)) (nm_r (nI_1 m) (ih (m + 1) T H L N C a8 a9 a10 (by omega) hR h))
theorem qb_wl {post : St2 → Prop} {l F B V K Fr To d : Nat} {k : Nat → Nat → Nat → Bool} (hl : l < 3) (hV : V ≤ 56) (hG : qb_G l F B a1 a2) (hM : qb_M l V K Fr To a3 a4 a5) (hd : d < 255)
    (P : ∀ (T H L N C : Nat) (a8 a9 a10 : Nat → Int32), qb_R T H L N C a8 a9 a10 → k T N C = true → post (f1, f2, nI V, f4, nI H, nI N, a1, a2, a3, a4, a5, a6, a7, a8, a9, a10)) :
    ∀ (f i T H L N C : Nat) (a8 a9 a10 : Nat → Int32), i ≤ 224 → qb_R T H L N C a8 a9 a10 → qa_wl F B K Fr To V d k f i T H L N C = true → wX_workLevel_7 post (nI d) f (nI i) f1 f2 (nI V) f4 (nI H) (nI N) a1 a2 a3 a4 a5 a6 a7 a8 a9 a10 := by
  intro f
  induction f with
  | zero =>
    intro i T H L N C a8 a9 a10 hi hR h
    exact qa_nf h
  | succ f ih =>
    intro i T H L N C a8 a9 a10 hi hR h
    rw [qa_wlE] at h
    have hR0 := hR
    obtain ⟨hH, hN, hT, hL, hC⟩ := hR
    rcases qa_bl h with ⟨e, h⟩ | ⟨e, h⟩
    · exact pk_le H i (fun _ => P T H L N C a8 a9 a10 hR0 h) (fun z => absurd z (by omega))
    · have hf := (hL i e).2
      have hx : a9 (nI i).toNatClampNeg = nI (qa_f L i) := by
        rw [nI_clamp (by omega)]
        exact (hL i e).1
      refine pk_le H i (fun z => absurd z (by omega)) (fun _ => ⟨pk_in i 224 (by omega), by decide, nm_r (e' := nI (qa_f L i / 8)) ?_ ⟨pk_in i 224 (by omega), by decide, nm_r (e' := nI (qa_f L i % 8)) ?_ ⟨V + 1, ?_⟩⟩⟩)
      · rw [hx]
        exact pk_div (d := 8) (by omega) (by decide) (by decide)
      · rw [hx]
        exact pk_rem (d := 8) (by omega) (by decide) (by decide)
      · exact qb_wm hl hV hG hM (by omega) (by omega) hd (fun T H L N C a8 a9 a10 hR h => nm_r (nI_1 i) (ih (i + 1) T H L N C a8 a9 a10 (by omega) hR h)) V 0 T H L N C a8 a9 a10 (by omega) hR0 h
theorem qb_s8 {post : St2 → Prop} {J : Int32 → Int32 → Int32 → Int32 → Int32 → Int32 → Int32 → (Nat → Int32) → (Nat → Int32) → (Nat → Int32) → (Nat → Int32) → (Nat → Int32) → (Nat → Int32) → (Nat → Int32) → (Nat → Int32) → (Nat → Int32) → (Nat → Int32) → Prop} {N C d : Nat} {k : Nat → Nat → Nat → Bool} (hd : d < 200) (hN : N ≤ 224) (hC : qb_A N C a10)
    (P : ∀ (T H L : Nat) (a8 a9 : Nat → Int32), H ≤ 224 → qb_T T a8 → qb_A H L a9 → k T H L = true → J (nI (d + 1)) f1 f2 f3 f4 (nI H) (nI N) a1 a2 a3 a4 a5 a6 a7 a8 a9 a10) :
    ∀ (r i T H L : Nat) (a8 a9 : Nat → Int32), i + r = N → H ≤ 224 → qb_T T a8 → qb_A H L a9 → qa_s8 C (d + 1) k r i T H L = true → wX_search_80 post J (nI d) (r + 1) (nI i) f1 f2 f3 f4 (nI H) (nI N) a1 a2 a3 a4 a5 a6 a7 a8 a9 a10 := by
  intro r
  induction r with
  | zero =>
    intro i T H L a8 a9 hi hH hT hL h
    exact pk_le N i (fun _ => nm_r (nI_1 d) (P T H L a8 a9 hH hT hL h)) (fun z => absurd z (by omega))
  | succ r ih =>
    intro i T H L a8 a9 hi hH hT hL h
    rw [qa_s8E] at h
    have hf := (hC i (by omega)).2
    have hx : a10 (nI i).toNatClampNeg = nI (qa_f C i) := by
      rw [nI_clamp (by omega)]
      exact (hC i (by omega)).1
    refine pk_le N i (fun z => absurd z (by omega)) (fun _ => ⟨pk_in i 224 (by omega), by decide, pk_in i 224 (by omega), by decide, ?_⟩)
    exact qb_rh (by rw [hx, qb_dm (by omega)]) hf (nI_1 d) (by omega) rfl hH hT hL h (fun T H L a8 a9 h1 h2 h3 h4 => nm_r (nI_1 i) (ih (i + 1) T H L a8 a9 (by omega) h1 h2 h3 h4))
theorem qb_s5 {post : St2 → Prop} {l F B V K Fr To : Nat} {k : Nat → Bool} (hl : l < 3) (hV : V ≤ 56) (hG : qb_G l F B a1 a2) (hM : qb_M l V K Fr To a3 a4 a5)
    (P : ∀ (T : Nat) (f5 f6 : Int32) (a8 a9 a10 : Nat → Int32), qb_T T a8 → k T = true → post (f1, f2, nI V, f4, f5, f6, a1, a2, a3, a4, a5, a6, a7, a8, a9, a10)) :
    ∀ (f d T H L : Nat) (f6 : Int32) (a8 a9 a10 : Nat → Int32), d ≤ 200 → H ≤ 224 → qb_T T a8 → qb_A H L a9 → qa_s5 F B K Fr To V k f d T H L = true → wX_search_54 post f (nI d) f1 f2 (nI V) f4 (nI H) f6 a1 a2 a3 a4 a5 a6 a7 a8 a9 a10 := by
  intro f
  induction f with
  | zero =>
    intro d T H L f6 a8 a9 a10 hd hH hT hL h
    exact qa_nf h
  | succ f ih =>
    intro d T H L f6 a8 a9 a10 hd hH hT hL h
    rw [qa_s5E] at h
    rcases qa_bl h with ⟨e, h⟩ | ⟨e, h⟩
    · exact pk_lt 224 d (fun _ => P T _ _ a8 a9 a10 hT h) (fun _ => pk_le H 0 (fun _ => P T _ _ a8 a9 a10 hT h) (fun z => absurd z (by omega)))
    · rcases qa_bl h with ⟨_, h⟩ | ⟨hd2, h⟩
      · exact qa_nf h
      · refine pk_lt 224 d (fun z => absurd z (by omega)) (fun _ => pk_le H 0 (fun z => absurd z (by omega)) (fun _ => ?_))
        unfold wpX_workLevel
        refine ⟨225, qb_wl hl hV hG hM (by omega) ?_ 225 0 T H L 0 0 a8 a9 a10 (by omega) ⟨hH, by omega, hT, hL, fun i hi => absurd hi (by omega)⟩ h⟩
        intro T' H' L' N C a8' a9' a10' hR h
        obtain ⟨_, hN, hT', _, hC⟩ := hR
        exact ⟨N + 1, qb_s8 hd2 hN hC (fun T H L a8 a9 h1 h2 h3 h4 => ih (d + 1) T H L (nI N) a8 a9 a10' (by omega) h1 h2 h3 h4) N 0 T' 0 0 a8' a9' (by omega) (by omega) hT' (fun i hi => absurd hi (by omega)) h⟩
theorem qb_fill {post : St2 → Prop} {x1 : Int32} (P : ∀ (n : Nat) (a8 : Nat → Int32), qb_T 0 a8 → wX_search_2 post x1 f1 f2 f3 f4 f5 f6 (n + 1) (nI 224) a1 a2 a3 a4 a5 a6 a7 a8 a9 a10) :
    wpX_search post (f1, f2, f3, f4, f5, f6, a1, a2, a3, a4, a5, a6, a7, a8, a9, a10) x1 := by
  unfold wpX_search
  refine pk_loop (fun n i s => wX_search_2 post x1 f1 f2 f3 f4 f5 f6 n (nI i) a1 a2 a3 a4 a5 a6 a7 s a9 a10) (fun i s => ∀ j, j < i → s j = -1) 224 0 a8 (by omega) (fun j hj => absurd hj (by omega)) ?_ ?_
  · intro n s h
    refine P n s (fun p hp => ?_)
    rw [h p hp, qa_f0]
    decide
  · intro n i s hi h hw
    refine pk_le 224 i (fun z => absurd z (by omega)) (fun _ => ⟨pk_in i 224 hi, nm_r (e' := upd s i (-1)) (by rw [nI_clamp (by omega)]) (nm_r (nI_1 i) (hw _ ?_))⟩)
    intro j hj
    by_cases e : j = i
    · rw [e, pk_us]
    · rw [pk_un e]
      exact h j (by omega)
theorem qb_se0 {post : St2 → Prop} {x1 : Int32} (hh : f4 = 0) (P : ∀ a8, post (f1, f2, f3, f4, f5, f6, a1, a2, a3, a4, a5, a6, a7, a8, a9, a10)) :
    wpX_search post (f1, f2, f3, f4, f5, f6, a1, a2, a3, a4, a5, a6, a7, a8, a9, a10) x1 :=
  qb_fill (fun n a8 _ => pk_le 224 224 (fun _ => br_t hh (P a8)) (fun z => absurd z (by omega)))
theorem qb_se {post : St2 → Prop} {l F B V K Fr To h st a : Nat} {k : Nat → Bool} (hl : l < 3) (hV : V ≤ 56) (hG : qb_G l F B a1 a2) (hM : qb_M l V K Fr To a3 a4 a5) (hh : h < 6) (h4 : f4 = nI (h + 1)) (h6 : a6 h = nI st) (ha : a < 8)
    (hk : qa_se F B K Fr To V st a k = true)
    (P : ∀ (T : Nat) (f5 f6 : Int32) (a8 a9 a10 : Nat → Int32), qb_T T a8 → k T = true → post (f1, f2, nI V, f4, f5, f6, a1, a2, a3, a4, a5, a6, a7, a8, a9, a10)) :
    wpX_search post (f1, f2, nI V, f4, f5, f6, a1, a2, a3, a4, a5, a6, a7, a8, a9, a10) (nI a) := by
  refine qb_fill (fun n a8 hT => pk_le 224 224 (fun _ => ?_) (fun z => absurd z (by omega)))
  have e1 : f4 - 1 = nI h := by rw [h4, nI_pred]
  rw [qa_seE] at hk
  rcases qa_bl hk with ⟨_, hk⟩ | ⟨hst, hk⟩
  · exact qa_nf hk
  refine br_f (by rw [h4]; exact nI_ne0 (by omega) (by omega)) ⟨pk_in h 6 hh e1, ?_⟩
  have e2 : a6 (f4 - 1).toNatClampNeg = nI st := by rw [e1, nI_clamp (by omega), h6]
  refine qb_rh (p := st * 8 + a) (H := 0) (L := 0) (T := 0) (d := 0) (by rw [e2, qb_pr]) (by omega) rfl (by omega) rfl (by omega) hT (fun i hi => absurd hi (by omega)) hk ?_
  intro T H L a8 a9 h1 h2 h3 h4
  exact ⟨30, qb_s5 hl hV hG hM P 30 0 T H L f6 a8 a9 a10 (by omega) h1 h2 h3 h4⟩
end
end
section
section
variable {f1 f2 f3 f4 f5 f6 : Int32} {a1 a2 a3 a4 a5 a6 a7 a8 a9 a10 : Nat → Int32}
/-- the lengths to the last state are those of D (length + 1, 0: none) -/
def qd_L (D : Nat → Nat) (u : St2) : Prop := ∀ b, b < 8 → ∀ q : Int32 → Prop, q (nI (D b) - 1) → wpX_lengthTo q u (nI b)
/-- what a search from a finds in every state of R -/
def qd_SP (R : St2 → Prop) (a : Nat) (D : Nat → Nat) : Prop := (∀ b, b < 8 → D b < 256) ∧ ∀ (u : St2) (post : St2 → Prop), R u → (∀ u', R u' → qd_L D u' → post u') → wpX_search post u (nI a)
theorem qd_bn {a : Nat} (ha : a < 8) {q : Int32 → Prop} (h : q 0) : wpX_badNode q () (nI a) :=
  br_f (nI_pos (by omega)) (br_t (nI_lt (b := 8) ha (by decide)) h)
theorem qd_or (a b : Nat) : nI a ||| nI b = nI (a ||| b) := by
  apply Int32.toBitVec_inj.1
  show BitVec.ofNat 32 a ||| BitVec.ofNat 32 b = BitVec.ofNat 32 (a ||| b)
  apply BitVec.eq_of_getLsbD_eq
  intro i hi
  simp [hi]
theorem qd_an (a b : Nat) : nI a &&& nI b = nI (a &&& b) := by
  apply Int32.toBitVec_inj.1
  show BitVec.ofNat 32 a &&& BitVec.ofNat 32 b = BitVec.ofNat 32 (a &&& b)
  apply BitVec.eq_of_getLsbD_eq
  intro i hi
  simp [hi]
theorem qd_sh : ∀ b, b < 8 → (1 : Int32) <<< (nI b &&& 31) = nI (2 ^ b) := by decide +kernel
/-- an answer: -5 or the length -/
def qd_v : Nat → Int32
  | 0 => -5
  | w + 1 => nI w
theorem qd_vv {w : Nat} {q : Int32 → Prop} (hw : w < 256) (h : q (qd_v w)) : (0 ≤ nI w - 1 → q (nI w - 1)) ∧ (¬ 0 ≤ nI w - 1 → q (-5)) := by
  cases w with
  | zero => exact br_f (by decide) h
  | succ w =>
    refine br_t ((qb_nn _ hw).mpr (by omega)) ?_
    rw [nI_pred]
    exact h
theorem qd_shortest {R : St2 → Prop} {a b : Nat} {D : Nat → Nat} (sp : qd_SP R a D) (ha : a < 8) (hb : b < 8) {u : St2} (hu : R u) {post : Int32 → St2 → Prop} (P : ∀ u', R u' → post (qd_v (D b)) u') : wpX_shortest post u (nI a) (nI b) := by
  obtain ⟨f1, f2, f3, f4, f5, f6, a1, a2, a3, a4, a5, a6, a7, a8, a9, a10⟩ := u
  unfold wpX_shortest
  refine qd_bn ha (br_t rfl (qd_bn hb (br_t rfl (sp.2 _ _ hu (fun u' hu' hL => ?_)))))
  obtain ⟨g1, g2, g3, g4, g5, g6, b1, b2, b3, b4, b5, b6, b7, b8, b9, b10⟩ := u'
  exact hL b hb _ (qd_vv (q := fun r => post r (g1, g2, g3, g4, g5, g6, b1, b2, b3, b4, b5, b6, b7, b8, b9, b10)) (sp.1 b hb) (P _ hu'))
/-- the set of nodes below n that are reached -/
def qd_set (D : Nat → Nat) : Nat → Nat
  | 0 => 0
  | b + 1 => cond (Nat.beq (D b) 0) (qd_set D b) (qd_set D b ||| 2 ^ b)
theorem qd_setlt (D : Nat → Nat) : ∀ b, qd_set D b < 2 ^ b
  | 0 => Nat.zero_lt_one
  | b + 1 => by
    have h := qd_setlt D b
    have h2 : 2 ^ b < 2 ^ (b + 1) := Nat.pow_lt_pow_right (by decide) (by omega)
    show cond (Nat.beq (D b) 0) (qd_set D b) (qd_set D b ||| 2 ^ b) < 2 ^ (b + 1)
    cases Nat.beq (D b) 0 with
    | true => exact Nat.lt_trans h h2
    | false => exact Nat.or_lt_two_pow (Nat.lt_trans h h2) h2
theorem qd_rf9 {post : Int32 → St2 → Prop} {D : Nat → Nat} (hL : qd_L D (f1, f2, f3, f4, f5, f6, a1, a2, a3, a4, a5, a6, a7, a8, a9, a10)) (hD : ∀ b, b < 8 → D b < 256) (P : post (nI (qd_set D 8)) (f1, f2, f3, f4, f5, f6, a1, a2, a3, a4, a5, a6, a7, a8, a9, a10)) :
    ∃ n, wX_reachFrom_9 post f1 f2 f3 f4 f5 f6 a1 a2 a3 a4 a5 a6 a7 a8 a9 a10 n 0 0 := by
  refine pk_loop (σ := Int32) (fun n i s => wX_reachFrom_9 post f1 f2 f3 f4 f5 f6 a1 a2 a3 a4 a5 a6 a7 a8 a9 a10 n s (nI i)) (fun i s => s = nI (qd_set D i)) 8 0 0 (by omega) rfl ?_ ?_
  · intro n s h
    subst h
    exact pk_le 8 8 (fun _ => P) (fun z => absurd z (by omega))
  · intro n i s hi h hw
    subst h
    refine pk_le 8 i (fun z => absurd z (by omega)) (fun _ => hL i hi _ ?_)
    cases e : Nat.beq (D i) 0 with
    | true =>
      refine br_t ((qb_neg _ (hD i hi)).mpr (Nat.eq_of_beq_eq_true e)) (nm_r (nI_1 i) (hw _ ?_))
      show nI (qd_set D i) = nI (cond (Nat.beq (D i) 0) (qd_set D i) (qd_set D i ||| 2 ^ i))
      rw [e]
      rfl
    | false =>
      refine br_f (fun z => Nat.ne_of_beq_eq_false e ((qb_neg _ (hD i hi)).mp z)) (nm_e (nm_r (nI_1 i) (hw _ ?_)))
      show nI (qd_set D i) ||| _ = nI (cond (Nat.beq (D i) 0) (qd_set D i) (qd_set D i ||| 2 ^ i))
      rw [e, qd_sh i hi, qd_or]
      rfl
theorem qd_reachFrom {R : St2 → Prop} {a : Nat} {D : Nat → Nat} (sp : qd_SP R a D) {u : St2} (hu : R u) {post : Int32 → St2 → Prop} (P : ∀ u', R u' → post (nI (qd_set D 8)) u') : wpX_reachFrom post u (nI a) := by
  obtain ⟨f1, f2, f3, f4, f5, f6, a1, a2, a3, a4, a5, a6, a7, a8, a9, a10⟩ := u
  unfold wpX_reachFrom
  refine sp.2 _ _ hu (fun u' hu' hL => ?_)
  obtain ⟨g1, g2, g3, g4, g5, g6, b1, b2, b3, b4, b5, b6, b7, b8, b9, b10⟩ := u'
  exact qd_rf9 hL sp.1 (P _ hu')
theorem qd_reach {R : St2 → Prop} {a : Nat} {D : Nat → Nat} (sp : qd_SP R a D) (ha : a < 8) {u : St2} (hu : R u) {post : Int32 → St2 → Prop} (P : ∀ u', R u' → post (nI (qd_set D 8)) u') : wpX_reach post u (nI a) := by
  obtain ⟨f1, f2, f3, f4, f5, f6, a1, a2, a3, a4, a5, a6, a7, a8, a9, a10⟩ := u
  unfold wpX_reach
  refine qd_bn ha (br_t rfl (qd_reachFrom sp hu (fun u' hu' => ?_)))
  obtain ⟨g1, g2, g3, g4, g5, g6, b1, b2, b3, b4, b5, b6, b7, b8, b9, b10⟩ := u'
  exact P _ hu'
def qd_pop (m : Nat) : Nat → Nat
  | 0 => 0
  | b + 1 => qd_pop m b + (m >>> b) % 2
def qd_prs (D : Nat → Nat → Nat) : Nat → Nat
  | 0 => 0
  | a + 1 => qd_prs D a + qd_pop (qd_set (D a) 8) 8
theorem qd_p19 {post : Int32 → St2 → Prop} {J : Int32 → Int32 → Int32 → Int32 → Int32 → Int32 → Int32 → Int32 → (Nat → Int32) → (Nat → Int32) → (Nat → Int32) → (Nat → Int32) → (Nat → Int32) → (Nat → Int32) → (Nat → Int32) → (Nat → Int32) → (Nat → Int32) → (Nat → Int32) → Prop} {x2 : Int32} {m c : Nat} (hm : m < 256)
    (P : ∀ x : Int32, x = x2 + 1 → J (nI (c + qd_pop m 8)) x f1 f2 f3 f4 f5 f6 a1 a2 a3 a4 a5 a6 a7 a8 a9 a10) :
    ∃ n, wX_pairs_19 post J x2 (nI m) f1 f2 f3 f4 f5 f6 a1 a2 a3 a4 a5 a6 a7 a8 a9 a10 n (nI c) 0 := by
  refine pk_loop (σ := Int32) (fun n i s => wX_pairs_19 post J x2 (nI m) f1 f2 f3 f4 f5 f6 a1 a2 a3 a4 a5 a6 a7 a8 a9 a10 n s (nI i)) (fun i s => s = nI (c + qd_pop m i)) 8 0 (nI c) (by omega) rfl ?_ ?_
  · intro n s h
    subst h
    exact pk_le 8 8 (fun _ => P) (fun z => absurd z (by omega))
  · intro n i s hi h hw
    subst h
    refine pk_le 8 i (fun z => absurd z (by omega)) (fun _ => nm_e (nm_r (nI_1 i) (hw _ ?_)))
    rw [qb_bit hm hi, nI_add]
    exact congrArg nI (Nat.add_assoc c (qd_pop m i) ((m >>> i) % 2))
theorem qd_p4 {R : St2 → Prop} {D : Nat → Nat → Nat} (sp : ∀ a, a < 8 → qd_SP R a (D a)) {post : Int32 → St2 → Prop} (P : ∀ u', R u' → post (nI (qd_prs D 8)) u') :
    ∀ (r a : Nat) (f1 f2 f3 f4 f5 f6 : Int32) (a1 a2 a3 a4 a5 a6 a7 a8 a9 a10 : Nat → Int32), a + r = 8 → R (f1, f2, f3, f4, f5, f6, a1, a2, a3, a4, a5, a6, a7, a8, a9, a10) → wX_pairs_4 post (r + 1) (nI (qd_prs D a)) (nI a) f1 f2 f3 f4 f5 f6 a1 a2 a3 a4 a5 a6 a7 a8 a9 a10 := by
  intro r
  induction r with
  | zero =>
    intro a f1 f2 f3 f4 f5 f6 a1 a2 a3 a4 a5 a6 a7 a8 a9 a10 ha hu
    have e : a = 8 := by omega
    subst e
    exact pk_le 8 8 (fun _ => P _ hu) (fun z => absurd z (by omega))
  | succ r ih =>
    intro a f1 f2 f3 f4 f5 f6 a1 a2 a3 a4 a5 a6 a7 a8 a9 a10 ha hu
    refine pk_le 8 a (fun z => absurd z (by omega)) (fun _ => qd_reachFrom (sp a (by omega)) hu (fun u' hu' => ?_))
    obtain ⟨g1, g2, g3, g4, g5, g6, b1, b2, b3, b4, b5, b6, b7, b8, b9, b10⟩ := u'
    exact qd_p19 (qd_setlt (D a) 8) (nm_r (nI_1 a) (ih (a + 1) _ _ _ _ _ _ _ _ _ _ _ _ _ _ _ _ (by omega) hu'))
theorem qd_pairs {R : St2 → Prop} {D : Nat → Nat → Nat} (sp : ∀ a, a < 8 → qd_SP R a (D a)) {u : St2} (hu : R u) {post : Int32 → St2 → Prop} (P : ∀ u', R u' → post (nI (qd_prs D 8)) u') : wpX_pairs post u := by
  obtain ⟨f1, f2, f3, f4, f5, f6, a1, a2, a3, a4, a5, a6, a7, a8, a9, a10⟩ := u
  unfold wpX_pairs
  exact ⟨9, qd_p4 sp P 8 0 _ _ _ _ _ _ _ _ _ _ _ _ _ _ _ _ rfl hu⟩
def qd_lps (D : Nat → Nat → Nat) : Nat → Nat
  | 0 => 0
  | a + 1 => qd_lps D a ||| (qd_set (D a) 8 &&& 2 ^ a)
theorem qd_l4 {R : St2 → Prop} {D : Nat → Nat → Nat} (sp : ∀ a, a < 8 → qd_SP R a (D a)) {post : Int32 → St2 → Prop} (P : ∀ u', R u' → post (nI (qd_lps D 8)) u') :
    ∀ (r a : Nat) (f1 f2 f3 f4 f5 f6 : Int32) (a1 a2 a3 a4 a5 a6 a7 a8 a9 a10 : Nat → Int32), a + r = 8 → R (f1, f2, f3, f4, f5, f6, a1, a2, a3, a4, a5, a6, a7, a8, a9, a10) → wX_loops_4 post (r + 1) (nI (qd_lps D a)) (nI a) f1 f2 f3 f4 f5 f6 a1 a2 a3 a4 a5 a6 a7 a8 a9 a10 := by
  intro r
  induction r with
  | zero =>
    intro a f1 f2 f3 f4 f5 f6 a1 a2 a3 a4 a5 a6 a7 a8 a9 a10 ha hu
    have e : a = 8 := by omega
    subst e
    exact pk_le 8 8 (fun _ => P _ hu) (fun z => absurd z (by omega))
  | succ r ih =>
    intro a f1 f2 f3 f4 f5 f6 a1 a2 a3 a4 a5 a6 a7 a8 a9 a10 ha hu
    refine pk_le 8 a (fun z => absurd z (by omega)) (fun _ => qd_reachFrom (sp a (by omega)) hu (fun u' hu' => ?_))
    obtain ⟨g1, g2, g3, g4, g5, g6, b1, b2, b3, b4, b5, b6, b7, b8, b9, b10⟩ := u'
    exact nm_r (e' := nI (qd_lps D (a + 1))) (by rw [qd_sh a (by omega), qd_an, qd_or]; rfl) (nm_r (nI_1 a) (ih (a + 1) _ _ _ _ _ _ _ _ _ _ _ _ _ _ _ _ (by omega) hu'))
theorem qd_loops {R : St2 → Prop} {D : Nat → Nat → Nat} (sp : ∀ a, a < 8 → qd_SP R a (D a)) {u : St2} (hu : R u) {post : Int32 → St2 → Prop} (P : ∀ u', R u' → post (nI (qd_lps D 8)) u') : wpX_loops post u := by
  obtain ⟨f1, f2, f3, f4, f5, f6, a1, a2, a3, a4, a5, a6, a7, a8, a9, a10⟩ := u
  unfold wpX_loops
  exact ⟨9, qd_l4 sp P 8 0 _ _ _ _ _ _ _ _ _ _ _ _ _ _ _ _ rfl hu⟩
def qd_mx (D : Nat → Nat) (w : Nat) : Nat → Nat
  | 0 => w
  | b + 1 => max (qd_mx D w b) (D b)
def qd_wd (D : Nat → Nat → Nat) : Nat → Nat
  | 0 => 0
  | a + 1 => qd_mx (D a) (qd_wd D a) 8
def qd_W (w : Nat) (x : Int32) : Prop := w < 256 ∧ (x = nI w - 1 ∨ (w = 0 ∧ x = -5))
theorem qd_le {d w : Nat} (hd : d < 256) (hw : w < 256) : nI d - 1 ≤ nI w - 1 ↔ d ≤ w := by
  show nI d - nI 1 ≤ nI w - nI 1 ↔ _
  rw [Int32.le_iff_toInt_le, pk_sub_toInt (by omega) (by omega), pk_sub_toInt (by omega) (by omega)]
  omega
theorem qd_le5 : ∀ d, d < 256 → ¬ nI d - 1 ≤ -5 := by decide +kernel
theorem qd_Wt {w d : Nat} {x : Int32} (hW : qd_W w x) (hd : d < 256) (h : nI d - 1 ≤ x) : qd_W (max w d) x := by
  obtain ⟨hw, e | ⟨e, e5⟩⟩ := hW
  · subst e
    have := (qd_le hd hw).mp h
    rw [show max w d = w by omega]
    exact ⟨hw, Or.inl rfl⟩
  · subst e5
    exact absurd h (qd_le5 d hd)
theorem qd_Wf {w d : Nat} {x : Int32} (hW : qd_W w x) (hd : d < 256) (h : ¬ nI d - 1 ≤ x) : qd_W (max w d) (nI d - 1) := by
  obtain ⟨hw, e | ⟨e, e5⟩⟩ := hW
  · subst e
    have : ¬ d ≤ w := fun z => h ((qd_le hd hw).mpr z)
    rw [show max w d = d by omega]
    exact ⟨hd, Or.inl rfl⟩
  · rw [show max w d = d by omega]
    exact ⟨hd, Or.inl rfl⟩
theorem qd_w18 {post : Int32 → St2 → Prop} {J : Int32 → Int32 → Int32 → Int32 → Int32 → Int32 → Int32 → Int32 → (Nat → Int32) → (Nat → Int32) → (Nat → Int32) → (Nat → Int32) → (Nat → Int32) → (Nat → Int32) → (Nat → Int32) → (Nat → Int32) → (Nat → Int32) → (Nat → Int32) → Prop} {x1 x2 : Int32} {D : Nat → Nat} {w : Nat} (hL : qd_L D (f1, f2, f3, f4, f5, f6, a1, a2, a3, a4, a5, a6, a7, a8, a9, a10)) (hD : ∀ b, b < 8 → D b < 256) (hW : qd_W w x1)
    (P : ∀ x1 : Int32, qd_W (qd_mx D w 8) x1 → ∀ x : Int32, x = x2 + 1 → J x1 x f1 f2 f3 f4 f5 f6 a1 a2 a3 a4 a5 a6 a7 a8 a9 a10) :
    ∃ n, wX_widest_18 post J x2 f1 f2 f3 f4 f5 f6 a1 a2 a3 a4 a5 a6 a7 a8 a9 a10 n x1 0 := by
  refine pk_loop (σ := Int32) (fun n i s => wX_widest_18 post J x2 f1 f2 f3 f4 f5 f6 a1 a2 a3 a4 a5 a6 a7 a8 a9 a10 n s (nI i)) (fun i s => qd_W (qd_mx D w i) s) 8 0 x1 (by omega) hW ?_ ?_
  · intro n s h
    exact pk_le 8 8 (fun _ => P s h) (fun z => absurd z (by omega))
  · intro n i s hi h hw
    exact pk_le 8 i (fun z => absurd z (by omega)) (fun _ => hL i hi _ (br_c (fun z => nm_r (nI_1 i) (hw s (qd_Wt h (hD i hi) z))) (fun z => nm_r (nI_1 i) (hw _ (qd_Wf h (hD i hi) z)))))
theorem qd_w5 {R : St2 → Prop} {D : Nat → Nat → Nat} (sp : ∀ a, a < 8 → qd_SP R a (D a)) {post : Int32 → St2 → Prop} (P : ∀ u', R u' → post (qd_v (qd_wd D 8)) u') :
    ∀ (r a : Nat) (x1 : Int32) (f1 f2 f3 f4 f5 f6 : Int32) (a1 a2 a3 a4 a5 a6 a7 a8 a9 a10 : Nat → Int32), a + r = 8 → qd_W (qd_wd D a) x1 → R (f1, f2, f3, f4, f5, f6, a1, a2, a3, a4, a5, a6, a7, a8, a9, a10) → wX_widest_5 post (r + 1) x1 (nI a) f1 f2 f3 f4 f5 f6 a1 a2 a3 a4 a5 a6 a7 a8 a9 a10 := by
  intro r
  induction r with
  | zero =>
    intro a x1 f1 f2 f3 f4 f5 f6 a1 a2 a3 a4 a5 a6 a7 a8 a9 a10 ha hW hu
    have e : a = 8 := by omega
    subst e
    refine pk_le 8 8 (fun _ => ?_) (fun z => absurd z (by omega))
    have hP := P _ hu
    obtain ⟨hw, e | ⟨e, e5⟩⟩ := hW
    · subst e
      exact qd_vv (q := fun r => post r (f1, f2, f3, f4, f5, f6, a1, a2, a3, a4, a5, a6, a7, a8, a9, a10)) hw hP
    · subst e5
      rw [e] at hP
      exact br_f (by decide) hP
  | succ r ih =>
    intro a x1 f1 f2 f3 f4 f5 f6 a1 a2 a3 a4 a5 a6 a7 a8 a9 a10 ha hW hu
    refine pk_le 8 a (fun z => absurd z (by omega)) (fun _ => (sp a (by omega)).2 _ _ hu (fun u' hu' hL => ?_))
    obtain ⟨g1, g2, g3, g4, g5, g6, b1, b2, b3, b4, b5, b6, b7, b8, b9, b10⟩ := u'
    exact qd_w18 hL (sp a (by omega)).1 hW (fun x1 h => nm_r (nI_1 a) (ih (a + 1) x1 _ _ _ _ _ _ _ _ _ _ _ _ _ _ _ _ (by omega) h hu'))
theorem qd_widest {R : St2 → Prop} {D : Nat → Nat → Nat} (sp : ∀ a, a < 8 → qd_SP R a (D a)) {u : St2} (hu : R u) {post : Int32 → St2 → Prop} (P : ∀ u', R u' → post (qd_v (qd_wd D 8)) u') : wpX_widest post u := by
  obtain ⟨f1, f2, f3, f4, f5, f6, a1, a2, a3, a4, a5, a6, a7, a8, a9, a10⟩ := u
  unfold wpX_widest
  exact ⟨9, qd_w5 sp P 8 0 (-5) _ _ _ _ _ _ _ _ _ _ _ _ _ _ _ _ rfl ⟨(by decide : 0 < 256), Or.inr ⟨rfl, rfl⟩⟩ hu⟩
end
end
section
section
variable {f1 f2 f3 f4 f5 f6 : Int32} {a1 a2 a3 a4 a5 a6 a7 a8 a9 a10 : Nat → Int32}
/-- the stack -/
def qc_K (H St En : Nat) (a6 a7 : Nat → Int32) : Prop := ∀ i, i < H → a6 i = nI (qa_f St i) ∧ a7 i = nI (qa_f En i)
/-- a state and its picture: graph F B of label l, M steps, S states, V moves, height H -/
def qc_R (l F B M S V H K Fr To St En : Nat) (u : St2) : Prop := match u with
  | (f1, f2, f3, f4, _, _, a1, a2, a3, a4, a5, a6, a7, _, _, _) => f1 = nI M ∧ f2 = nI S ∧ f3 = nI V ∧ f4 = nI H ∧ qb_G l F B a1 a2 ∧ qb_M l V K Fr To a3 a4 a5 ∧ qc_K H St En a6 a7
theorem qc_sp {l F B M S V H K Fr To St En a : Nat} {D : Nat → Nat} (hl : l < 3) (hV : V ≤ 56) (hH : H < 6) (ha : a < 8) (hE : qa_f En H < 28) (hD : ∀ b, b < 8 → D b < 256)
    (hk : qa_se F B K Fr To V (qa_f St H) a (fun T => qa_ck T (qa_f En H) D 8) = true) : qd_SP (qc_R l F B M S V (H + 1) K Fr To St En) a D := by
  refine ⟨hD, fun u post hu P => ?_⟩
  obtain ⟨f1, f2, f3, f4, f5, f6, a1, a2, a3, a4, a5, a6, a7, a8, a9, a10⟩ := u
  obtain ⟨rfl, rfl, rfl, rfl, hG, hM, hK⟩ := hu
  refine qb_se hl hV hG hM hH rfl (hK H (by omega)).1 ha hk (fun T f5 f6 a8 a9 a10 hT hc => P _ ⟨rfl, rfl, rfl, rfl, hG, hM, hK⟩ ?_)
  intro b hb q hq
  have e1 : nI (H + 1) - 1 = nI H := nI_pred H
  have e2 : a7 (nI (H + 1) - 1).toNatClampNeg * 8 + nI b = nI (qa_f En H * 8 + b) := by
    rw [e1, nI_clamp (by omega), (hK H (by omega)).2, qb_pr]
  unfold wpX_lengthTo
  refine br_f (nI_ne0 (by omega) (by omega)) ⟨pk_in H 6 hH e1, pk_in (qa_f En H * 8 + b) 224 (by omega) e2, ?_⟩
  rw [e2, nI_clamp (by omega), hT _ (by omega), qa_ckB 8 hc b hb]
  exact hq
theorem qc_sp0 {l F B M S V K Fr To St En a : Nat} : qd_SP (qc_R l F B M S V 0 K Fr To St En) a (fun _ => 0) := by
  refine ⟨fun _ _ => (by decide : 0 < 256), fun u post hu P => ?_⟩
  obtain ⟨f1, f2, f3, f4, f5, f6, a1, a2, a3, a4, a5, a6, a7, a8, a9, a10⟩ := u
  obtain ⟨rfl, rfl, rfl, rfl, hG, hM, hK⟩ := hu
  refine qb_se0 rfl (fun a8 => P _ ⟨rfl, rfl, rfl, rfl, hG, hM, hK⟩ ?_)
  intro b hb q hq
  unfold wpX_lengthTo
  refine br_t rfl ?_
  have e : nI 0 - 1 = (-1 : Int32) := by decide
  rw [← e]
  exact hq
theorem qc_Ma {l V K Fr To k x y : Nat} (h : qb_M l V K Fr To a3 a4 a5) (hk : k < 256) (hx : x < 256) (hy : y < 256) : qb_M l (V + 1) (qa_t K V k) (qa_t Fr V x) (qa_t To V y) (upd a3 V (nI (qa_enc l k))) (upd a4 V (nI x)) (upd a5 V (nI y)) := by
  intro m hm
  by_cases e : m = V
  · subst e
    rw [pk_us, pk_us, pk_us, qa_tE hk, qa_tE hx, qa_tE hy]
    exact ⟨rfl, rfl, rfl⟩
  · rw [pk_un e, pk_un e, pk_un e, qa_tL (by omega), qa_tL (by omega), qa_tL (by omega)]
    exact h m (by omega)
theorem qc_Ka {H St En s t : Nat} (h : qc_K H St En a6 a7) (hs : s < 256) (ht : t < 256) : qc_K (H + 1) (qa_t St H s) (qa_t En H t) (upd a6 H (nI s)) (upd a7 H (nI t)) := by
  intro m hm
  by_cases e : m = H
  · subst e
    rw [pk_us, pk_us, qa_tE hs, qa_tE ht]
    exact ⟨rfl, rfl⟩
  · rw [pk_un e, pk_un e, qa_tL (by omega), qa_tL (by omega)]
    exact h m (by omega)
theorem qc_Kl {H H' St En : Nat} (h : qc_K H St En a6 a7) (hh : H' ≤ H) : qc_K H' St En a6 a7 := fun i hi => h i (by omega)
theorem qc_add {post : St2 → Prop} {l V K Fr To k x y : Nat} {kk xx yy : Int32} (hM : qb_M l V K Fr To a3 a4 a5) (hV : V < 56) (hk : kk = nI (qa_enc l k)) (hk' : k < 256) (hx : xx = nI x) (hx' : x < 256) (hy : yy = nI y) (hy' : y < 256)
    (P : ∀ a3 a4 a5 : Nat → Int32, qb_M l (V + 1) (qa_t K V k) (qa_t Fr V x) (qa_t To V y) a3 a4 a5 → post (f1, f2, nI (V + 1), f4, f5, f6, a1, a2, a3, a4, a5, a6, a7, a8, a9, a10)) :
    wpX_addMove post (f1, f2, nI V, f4, f5, f6, a1, a2, a3, a4, a5, a6, a7, a8, a9, a10) kk xx yy := by
  subst hk hx hy
  unfold wpX_addMove
  refine ⟨pk_in V 56 hV, nm_e ⟨pk_in V 56 hV, nm_e ⟨pk_in V 56 hV, nm_e (nm_r (nI_1 V) (P _ _ _ ?_))⟩⟩⟩
  rw [nI_clamp (by omega)]
  exact qc_Ma hM hk' hx' hy'
theorem qc_ok {q : Int32 → Prop} {M H t : Nat} (hM : M < 14) (hH : H ≤ 6) (ht : t ≤ H) (h0 : t = 0 → H < 6) (hq : q 0) : wpX_refusal q (nI M, f2, f3, nI H, f5, f6, a1, a2, a3, a4, a5, a6, a7, a8, a9, a10) (nI t) := by
  have h25 : wX_refusal_25 q (nI t) (nI M) f2 f3 (nI H) f5 f6 a1 a2 a3 a4 a5 a6 a7 a8 a9 a10 := pk_le t H (fun _ => hq) (fun z => absurd z (by omega))
  unfold wpX_refusal
  exact pk_le 14 M (fun z => absurd z (by omega)) (fun _ => pk_eq t 0 (fun e => pk_lt H 6 (fun _ => h25) (fun z => absurd (h0 e) (by omega))) (fun _ => h25))
theorem qc_f14 {q : Int32 → Prop} {x : Int32} (hq : q (-3)) : wpX_refusal q (nI 14, f2, f3, f4, f5, f6, a1, a2, a3, a4, a5, a6, a7, a8, a9, a10) x := by
  unfold wpX_refusal
  exact pk_le 14 14 (fun _ => hq) (fun z => absurd z (by omega))
theorem qc_f6 {q : Int32 → Prop} {M : Nat} (hM : M < 14) (hq : q (-3)) : wpX_refusal q (nI M, f2, f3, nI 6, f5, f6, a1, a2, a3, a4, a5, a6, a7, a8, a9, a10) 0 := by
  unfold wpX_refusal
  exact pk_le 14 M (fun z => absurd z (by omega)) (fun _ => br_t rfl (pk_lt 6 6 (fun z => absurd z (by omega)) (fun _ => hq)))
theorem qc_lo {q : Int32 → Prop} {M H t : Nat} (hM : M < 14) (ht : H < t) (ht' : t < 10) (hq : q (-4)) : wpX_refusal q (nI M, f2, f3, nI H, f5, f6, a1, a2, a3, a4, a5, a6, a7, a8, a9, a10) (nI t) := by
  have h25 : wX_refusal_25 q (nI t) (nI M) f2 f3 (nI H) f5 f6 a1 a2 a3 a4 a5 a6 a7 a8 a9 a10 := pk_le t H (fun z => absurd z (by omega)) (fun _ => hq)
  unfold wpX_refusal
  exact pk_le 14 M (fun z => absurd z (by omega)) (fun _ => pk_eq t 0 (fun e => absurd e (by omega)) (fun _ => h25))
theorem qc_push {post : Int32 → St2 → Prop} {l F B M S V H K Fr To St En k : Nat} {kk : Int32} {u : St2} (h : qc_R l F B M S V H K Fr To St En u) (hM : M < 14) (hH : H < 6) (hV : V < 56) (hS : S < 250) (hk : kk = nI (qa_enc l k)) (hk' : k < 256)
    (P : ∀ u', qc_R l F B (M + 1) (S + 2) (V + 1) (H + 1) (qa_t K V k) (qa_t Fr V S) (qa_t To V (S + 1)) (qa_t St H S) (qa_t En H (S + 1)) u' → post (nI (H + 1)) u') : wpX_pushMove post u kk := by
  obtain ⟨f1, f2, f3, f4, f5, f6, a1, a2, a3, a4, a5, a6, a7, a8, a9, a10⟩ := u
  obtain ⟨rfl, rfl, rfl, rfl, hG, hMv, hK⟩ := h
  unfold wpX_pushMove
  refine qc_ok (t := 0) hM (by omega) (by omega) (fun _ => hH) (br_t rfl (nm_r (nI_1 M) ?_))
  refine qc_add hMv hV hk hk' rfl (show S < 256 by omega) (nI_1 S) (by omega) (fun a3 a4 a5 hMv => ?_)
  refine ⟨pk_in H 6 hH, nm_e ⟨pk_in H 6 hH, nm_e (nm_r (nI_add S 2) (nm_r (nI_1 H) (P _ ⟨rfl, rfl, rfl, rfl, hG, hMv, ?_⟩)))⟩⟩
  rw [nI_clamp (by omega), nI_1]
  exact qc_Ka hK (by omega) (by omega)
theorem qc_bl {l : Nat} (hl : l < 3) {q : Int32 → Prop} (h : q 0) : wpX_badLabel q () (nI l) :=
  br_f (nI_pos (by omega)) (br_t (nI_le (b := 2) (by omega) (by decide)) h)
theorem qc_label {post : Int32 → St2 → Prop} {l F B M S V H K Fr To St En : Nat} {u : St2} (h : qc_R l F B M S V H K Fr To St En u) (hl : l < 3) (hM : M < 14) (hH : H < 6) (hV : V < 56) (hS : S < 250)
    (P : ∀ u', qc_R l F B (M + 1) (S + 2) (V + 1) (H + 1) (qa_t K V 0) (qa_t Fr V S) (qa_t To V (S + 1)) (qa_t St H S) (qa_t En H (S + 1)) u' → post (nI (H + 1)) u') : wpX_label post u (nI l) := by
  obtain ⟨f1, f2, f3, f4, f5, f6, a1, a2, a3, a4, a5, a6, a7, a8, a9, a10⟩ := u
  unfold wpX_label
  refine qc_bl hl (br_t rfl (qc_push (k := 0) h hM hH hV hS rfl (by omega) (fun u' h' => ?_)))
  obtain ⟨g1, g2, g3, g4, g5, g6, b1, b2, b3, b4, b5, b6, b7, b8, b9, b10⟩ := u'
  exact P _ h'
theorem qc_back {post : Int32 → St2 → Prop} {l F B M S V H K Fr To St En : Nat} {u : St2} (h : qc_R l F B M S V H K Fr To St En u) (hl : l < 3) (hM : M < 14) (hH : H < 6) (hV : V < 56) (hS : S < 250)
    (P : ∀ u', qc_R l F B (M + 1) (S + 2) (V + 1) (H + 1) (qa_t K V 1) (qa_t Fr V S) (qa_t To V (S + 1)) (qa_t St H S) (qa_t En H (S + 1)) u' → post (nI (H + 1)) u') : wpX_back post u (nI l) := by
  obtain ⟨f1, f2, f3, f4, f5, f6, a1, a2, a3, a4, a5, a6, a7, a8, a9, a10⟩ := u
  unfold wpX_back
  refine qc_bl hl (br_t rfl (qc_push (k := 1) h hM hH hV hS (nI_add 3 l) (by omega) (fun u' h' => ?_)))
  obtain ⟨g1, g2, g3, g4, g5, g6, b1, b2, b3, b4, b5, b6, b7, b8, b9, b10⟩ := u'
  exact P _ h'
theorem qc_at {post : Int32 → St2 → Prop} {l F B M S V H K Fr To St En n : Nat} {u : St2} (h : qc_R l F B M S V H K Fr To St En u) (hn : n < 8) (hM : M < 14) (hH : H < 6) (hV : V < 56) (hS : S < 250)
    (P : ∀ u', qc_R l F B (M + 1) (S + 2) (V + 1) (H + 1) (qa_t K V (3 + n)) (qa_t Fr V S) (qa_t To V (S + 1)) (qa_t St H S) (qa_t En H (S + 1)) u' → post (nI (H + 1)) u') : wpX_at post u (nI n) := by
  obtain ⟨f1, f2, f3, f4, f5, f6, a1, a2, a3, a4, a5, a6, a7, a8, a9, a10⟩ := u
  have h1 : ∀ n, n < 8 → ¬ nI n < -1 := by decide +kernel
  have h2 : (7 : Int32) + nI n = nI (qa_enc l (3 + n)) := by
    rw [qb_e2 (by omega) (by omega), show (7 : Int32) = nI 7 from rfl, nI_add]
    exact congrArg nI (by omega)
  unfold wpX_at
  refine br_f (h1 n hn) (br_t (nI_lt (b := 8) hn (by decide)) (br_t (nI_pos' (by omega)) ?_))
  unfold wX_at_28
  refine qc_push (k := 3 + n) h hM hH hV hS h2 (by omega) (fun u' h' => ?_)
  obtain ⟨g1, g2, g3, g4, g5, g6, b1, b2, b3, b4, b5, b6, b7, b8, b9, b10⟩ := u'
  exact P _ h'
theorem qc_atS {post : Int32 → St2 → Prop} {l F B M S V H K Fr To St En : Nat} {u : St2} (h : qc_R l F B M S V H K Fr To St En u) (hM : M < 14) (hH : H < 6) (hV : V < 56) (hS : S < 250)
    (P : ∀ u', qc_R l F B (M + 1) (S + 2) (V + 1) (H + 1) (qa_t K V 2) (qa_t Fr V S) (qa_t To V (S + 1)) (qa_t St H S) (qa_t En H (S + 1)) u' → post (nI (H + 1)) u') : wpX_at post u (-1) := by
  obtain ⟨f1, f2, f3, f4, f5, f6, a1, a2, a3, a4, a5, a6, a7, a8, a9, a10⟩ := u
  unfold wpX_at
  refine br_f (by decide) (br_t (by decide) (br_f (by decide) ?_))
  unfold wX_at_28
  refine qc_push (k := 2) h hM hH hV hS rfl (by omega) (fun u' h' => ?_)
  obtain ⟨g1, g2, g3, g4, g5, g6, b1, b2, b3, b4, b5, b6, b7, b8, b9, b10⟩ := u'
  exact P _ h'
/-- refused: the stack is full -/
theorem qc_atF {post : Int32 → St2 → Prop} {l F B M S V K Fr To St En : Nat} {u : St2} (h : qc_R l F B M S V 6 K Fr To St En u) (hM : M < 14) (P : post (-3) u) : wpX_at post u (-1) := by
  obtain ⟨f1, f2, f3, f4, f5, f6, a1, a2, a3, a4, a5, a6, a7, a8, a9, a10⟩ := u
  obtain ⟨rfl, rfl, rfl, rfl, hG, hMv, hK⟩ := h
  unfold wpX_at
  refine br_f (by decide) (br_t (by decide) (br_f (by decide) ?_))
  unfold wX_at_28 wpX_pushMove
  exact qc_f6 hM (br_f (by decide) P)
theorem qc_labelF {post : Int32 → St2 → Prop} {l F B M S V K Fr To St En : Nat} {u : St2} (h : qc_R l F B M S V 6 K Fr To St En u) (hM : M < 14) (P : post (-3) u) : wpX_label post u 0 := by
  obtain ⟨f1, f2, f3, f4, f5, f6, a1, a2, a3, a4, a5, a6, a7, a8, a9, a10⟩ := u
  obtain ⟨rfl, rfl, rfl, rfl, hG, hMv, hK⟩ := h
  unfold wpX_label
  refine qc_bl (l := 0) (by omega) (br_t rfl ?_)
  unfold wpX_pushMove
  exact qc_f6 hM (br_f (by decide) P)
theorem qc_at9 {post : Int32 → St2 → Prop} {u : St2} (P : post (-2) u) : wpX_at post u 9 := by
  obtain ⟨f1, f2, f3, f4, f5, f6, a1, a2, a3, a4, a5, a6, a7, a8, a9, a10⟩ := u
  unfold wpX_at
  exact br_f (by decide) (br_f (by decide) P)
theorem qc_back3 {post : Int32 → St2 → Prop} {u : St2} (P : post (-1) u) : wpX_back post u 3 := by
  obtain ⟨f1, f2, f3, f4, f5, f6, a1, a2, a3, a4, a5, a6, a7, a8, a9, a10⟩ := u
  unfold wpX_back
  exact br_f (by decide) (br_f (by decide) (br_f (by decide) P))
theorem qc_star {post : Int32 → St2 → Prop} {l F B M S V H K Fr To St En : Nat} {u : St2} (h : qc_R l F B M S V (H + 1) K Fr To St En u) (hM : M < 14) (hH : H < 6) (hV : V + 4 ≤ 56) (hS : S < 250)
    (P : ∀ u', qc_R l F B (M + 1) (S + 2) (V + 1 + 1 + 1 + 1) (H + 1) (qa_t (qa_t (qa_t (qa_t K V 2) (V + 1) 2) (V + 1 + 1) 2) (V + 1 + 1 + 1) 2) (qa_t (qa_t (qa_t (qa_t Fr V S) (V + 1) (qa_f En H)) (V + 1 + 1) (qa_f En H)) (V + 1 + 1 + 1) S) (qa_t (qa_t (qa_t (qa_t To V (qa_f St H)) (V + 1) (S + 1)) (V + 1 + 1) (qa_f St H)) (V + 1 + 1 + 1) (S + 1)) (qa_t St H S) (qa_t En H (S + 1)) u' → post (nI (H + 1)) u') : wpX_star post u := by
  obtain ⟨f1, f2, f3, f4, f5, f6, a1, a2, a3, a4, a5, a6, a7, a8, a9, a10⟩ := u
  obtain ⟨rfl, rfl, rfl, rfl, hG, hMv, hK⟩ := h
  have e1 : nI (H + 1) - 1 = nI H := nI_pred H
  have hx := qa_lt St H
  have hy := qa_lt En H
  unfold wpX_star
  refine qc_ok (t := 1) hM (by omega) (by omega) (fun z => absurd z (by omega)) (br_t rfl (nm_r (nI_1 M) ⟨pk_in H 6 hH e1, nm_r (e' := nI (qa_f St H)) (by rw [e1, nI_clamp (by omega)]; exact (hK H (by omega)).1) ⟨pk_in H 6 hH e1, nm_r (e' := nI (qa_f En H)) (by rw [e1, nI_clamp (by omega)]; exact (hK H (by omega)).2) ?_⟩⟩))
  refine qc_add (k := 2) hMv (by omega) rfl (by omega) rfl (show S < 256 by omega) rfl hx (fun a3 a4 a5 hMv => ?_)
  refine qc_add (k := 2) hMv (by omega) rfl (by omega) rfl hy (nI_1 S) (by omega) (fun a3 a4 a5 hMv => ?_)
  refine qc_add (k := 2) hMv (by omega) rfl (by omega) rfl hy rfl hx (fun a3 a4 a5 hMv => ?_)
  refine qc_add (k := 2) hMv (by omega) rfl (by omega) rfl (show S < 256 by omega) (nI_1 S) (by omega) (fun a3 a4 a5 hMv => ?_)
  refine ⟨pk_in H 6 hH e1, nm_e ⟨pk_in H 6 hH e1, nm_e (nm_r (nI_add S 2) (P _ ⟨rfl, rfl, rfl, rfl, hG, hMv, ?_⟩))⟩⟩
  rw [e1, nI_clamp (by omega), nI_1]
  exact qc_Ka (qc_Kl hK (by omega)) (by omega) (by omega)
theorem qc_or {post : Int32 → St2 → Prop} {l F B M S V H K Fr To St En : Nat} {u : St2} (h : qc_R l F B M S V (H + 2) K Fr To St En u) (hM : M < 14) (hH : H + 1 < 6) (hV : V + 4 ≤ 56) (hS : S < 250)
    (P : ∀ u', qc_R l F B (M + 1) (S + 2) (V + 1 + 1 + 1 + 1) (H + 1) (qa_t (qa_t (qa_t (qa_t K V 2) (V + 1) 2) (V + 1 + 1) 2) (V + 1 + 1 + 1) 2) (qa_t (qa_t (qa_t (qa_t Fr V S) (V + 1) S) (V + 1 + 1) (qa_f En H)) (V + 1 + 1 + 1) (qa_f En (H + 1))) (qa_t (qa_t (qa_t (qa_t To V (qa_f St H)) (V + 1) (qa_f St (H + 1))) (V + 1 + 1) (S + 1)) (V + 1 + 1 + 1) (S + 1)) (qa_t St H S) (qa_t En H (S + 1)) u' → post (nI (H + 1)) u') : wpX_or post u := by
  obtain ⟨f1, f2, f3, f4, f5, f6, a1, a2, a3, a4, a5, a6, a7, a8, a9, a10⟩ := u
  obtain ⟨rfl, rfl, rfl, rfl, hG, hMv, hK⟩ := h
  have e1 : nI (H + 1) - 1 = nI H := nI_pred H
  have hx := qa_lt St H
  have hy := qa_lt En H
  have hx' := qa_lt St (H + 1)
  have hy' := qa_lt En (H + 1)
  have s0 : a6 (nI (H + 1) - 1).toNatClampNeg = nI (qa_f St H) := by
    rw [e1, nI_clamp (by omega)]
    exact (hK H (by omega)).1
  have t0 : a7 (nI (H + 1) - 1).toNatClampNeg = nI (qa_f En H) := by
    rw [e1, nI_clamp (by omega)]
    exact (hK H (by omega)).2
  have s1 : a6 (nI (H + 1)).toNatClampNeg = nI (qa_f St (H + 1)) := by
    rw [nI_clamp (by omega)]
    exact (hK (H + 1) (by omega)).1
  have t1 : a7 (nI (H + 1)).toNatClampNeg = nI (qa_f En (H + 1)) := by
    rw [nI_clamp (by omega)]
    exact (hK (H + 1) (by omega)).2
  unfold wpX_or
  refine qc_ok (t := 2) hM (by omega) (by omega) (fun z => absurd z (by omega)) (br_t rfl (nm_r (nI_1 M) (nm_r (nI_pred (H + 1)) ⟨pk_in H 6 (by omega) e1, ?_⟩)))
  refine qc_add (k := 2) hMv (by omega) rfl (by omega) rfl (show S < 256 by omega) s0 hx (fun a3 a4 a5 hMv => ⟨pk_in (H + 1) 6 hH, ?_⟩)
  refine qc_add (k := 2) hMv (by omega) rfl (by omega) rfl (show S < 256 by omega) s1 hx' (fun a3 a4 a5 hMv => ⟨pk_in H 6 (by omega) e1, ?_⟩)
  refine qc_add (k := 2) hMv (by omega) rfl (by omega) t0 hy (nI_1 S) (by omega) (fun a3 a4 a5 hMv => ⟨pk_in (H + 1) 6 hH, ?_⟩)
  refine qc_add (k := 2) hMv (by omega) rfl (by omega) t1 hy' (nI_1 S) (by omega) (fun a3 a4 a5 hMv => ?_)
  refine ⟨pk_in H 6 (by omega) e1, nm_e ⟨pk_in H 6 (by omega) e1, nm_e (nm_r (nI_add S 2) (P _ ⟨rfl, rfl, rfl, rfl, hG, hMv, ?_⟩))⟩⟩
  rw [e1, nI_clamp (by omega), nI_1]
  exact qc_Ka (qc_Kl hK (by omega)) (by omega) (by omega)
theorem qc_then {post : Int32 → St2 → Prop} {l F B M S V H K Fr To St En : Nat} {u : St2} (h : qc_R l F B M S V (H + 2) K Fr To St En u) (hM : M < 14) (hH : H + 1 < 6) (hV : V + 1 ≤ 56)
    (P : ∀ u', qc_R l F B (M + 1) S (V + 1) (H + 1) (qa_t K V 2) (qa_t Fr V (qa_f En H)) (qa_t To V (qa_f St (H + 1))) St (qa_t En H (qa_f En (H + 1))) u' → post (nI (H + 1)) u') : wpX_then post u := by
  obtain ⟨f1, f2, f3, f4, f5, f6, a1, a2, a3, a4, a5, a6, a7, a8, a9, a10⟩ := u
  obtain ⟨rfl, rfl, rfl, rfl, hG, hMv, hK⟩ := h
  have e1 : nI (H + 1) - 1 = nI H := nI_pred H
  have hy := qa_lt En H
  have hx' := qa_lt St (H + 1)
  have hy' := qa_lt En (H + 1)
  have t0 : a7 (nI (H + 1) - 1).toNatClampNeg = nI (qa_f En H) := by
    rw [e1, nI_clamp (by omega)]
    exact (hK H (by omega)).2
  have s1 : a6 (nI (H + 1)).toNatClampNeg = nI (qa_f St (H + 1)) := by
    rw [nI_clamp (by omega)]
    exact (hK (H + 1) (by omega)).1
  have t1 : a7 (nI (H + 1)).toNatClampNeg = nI (qa_f En (H + 1)) := by
    rw [nI_clamp (by omega)]
    exact (hK (H + 1) (by omega)).2
  unfold wpX_then
  refine qc_ok (t := 2) hM (by omega) (by omega) (fun z => absurd z (by omega)) (br_t rfl (nm_r (nI_1 M) (nm_r (nI_pred (H + 1)) ⟨pk_in H 6 (by omega) e1, pk_in (H + 1) 6 hH, ?_⟩)))
  refine qc_add (k := 2) hMv (by omega) rfl (by omega) t0 hy s1 hx' (fun a3 a4 a5 hMv => ⟨pk_in (H + 1) 6 hH, pk_in H 6 (by omega) e1, nm_e (P _ ⟨rfl, rfl, rfl, rfl, hG, hMv, ?_⟩)⟩)
  rw [t1, e1, nI_clamp (by omega)]
  intro i hi
  by_cases e : i = H
  · subst e
    rw [pk_us, qa_tE hy']
    exact ⟨(hK i (by omega)).1, rfl⟩
  · rw [pk_un e, qa_tL (by omega)]
    exact hK i (by omega)
/-- refusals of the steps that take -/
theorem qc_orL {post : Int32 → St2 → Prop} {l F B M S V K Fr To St En : Nat} {u : St2} (h : qc_R l F B M S V 1 K Fr To St En u) (hM : M < 14) (P : post (-4) u) : wpX_or post u := by
  obtain ⟨f1, f2, f3, f4, f5, f6, a1, a2, a3, a4, a5, a6, a7, a8, a9, a10⟩ := u
  obtain ⟨rfl, rfl, rfl, rfl, hG, hMv, hK⟩ := h
  unfold wpX_or
  exact qc_lo (t := 2) hM (by omega) (by omega) (br_f (by decide) P)
theorem qc_orF {post : Int32 → St2 → Prop} {l F B S V H K Fr To St En : Nat} {u : St2} (h : qc_R l F B 14 S V H K Fr To St En u) (P : post (-3) u) : wpX_or post u := by
  obtain ⟨f1, f2, f3, f4, f5, f6, a1, a2, a3, a4, a5, a6, a7, a8, a9, a10⟩ := u
  obtain ⟨rfl, rfl, rfl, rfl, hG, hMv, hK⟩ := h
  unfold wpX_or
  exact qc_f14 (br_f (by decide) P)
theorem qc_starF {post : Int32 → St2 → Prop} {l F B S V H K Fr To St En : Nat} {u : St2} (h : qc_R l F B 14 S V H K Fr To St En u) (P : post (-3) u) : wpX_star post u := by
  obtain ⟨f1, f2, f3, f4, f5, f6, a1, a2, a3, a4, a5, a6, a7, a8, a9, a10⟩ := u
  obtain ⟨rfl, rfl, rfl, rfl, hG, hMv, hK⟩ := h
  unfold wpX_star
  exact qc_f14 (br_f (by decide) P)
theorem qc_steps {post : Int32 → Prop} {l F B M S V H K Fr To St En : Nat} {u : St2} (h : qc_R l F B M S V H K Fr To St En u) (P : post (nI M)) : wpX_steps post u := by
  obtain ⟨f1, f2, f3, f4, f5, f6, a1, a2, a3, a4, a5, a6, a7, a8, a9, a10⟩ := u
  obtain ⟨rfl, rfl, rfl, rfl, hG, hMv, hK⟩ := h
  unfold wpX_steps
  exact P
theorem qc_clear {post : St2 → Prop} {l F B M S V H K Fr To St En : Nat} {u : St2} (h : qc_R l F B M S V H K Fr To St En u) (P : ∀ u', qc_R l F B 0 0 0 0 0 0 0 0 0 u' → post u') : wpX_clear post u := by
  obtain ⟨f1, f2, f3, f4, f5, f6, a1, a2, a3, a4, a5, a6, a7, a8, a9, a10⟩ := u
  obtain ⟨rfl, rfl, rfl, rfl, hG, hMv, hK⟩ := h
  unfold wpX_clear
  exact P _ ⟨rfl, rfl, rfl, rfl, hG, fun i hi => absurd hi (by omega), fun i hi => absurd hi (by omega)⟩
theorem qc_clr : ∀ v, v < 256 → ∀ y, y < 8 → nI v &&& (((1 : Int32) <<< (nI y &&& 31)) ^^^ (-1)) = nI (v &&& (255 - 2 ^ y)) := by decide +kernel
/-- a row of the graph after an edge is taken away, and after it is put -/
def qc_off (X x y : Nat) : Nat := qa_s X x (qa_f X x &&& (255 - 2 ^ y))
def qc_on (X x y : Nat) : Nat := qa_s X x ((qa_f X x &&& (255 - 2 ^ y)) ||| 2 ^ y)
theorem qc_c8 {v y : Nat} (hv : v < 256) : v &&& (255 - 2 ^ y) < 256 := Nat.lt_of_le_of_lt Nat.and_le_left hv
theorem qc_o8 {v y : Nat} (hv : v < 256) (hy : y < 8) : v ||| 2 ^ y < 256 := Nat.or_lt_two_pow (n := 8) hv (Nat.pow_lt_pow_right (by decide) hy)
theorem qc_row {l X x w : Nat} {a b : Nat → Int32} (hx : x < 8) (hw : w < 256) (h : ∀ n, n < 8 → a (l * 8 + n) = nI (qa_f X n)) (h1 : b (l * 8 + x) = nI w) (h2 : ∀ j, j ≠ l * 8 + x → b j = a j) : ∀ n, n < 8 → b (l * 8 + n) = nI (qa_f (qa_s X x w) n) := by
  intro n hn
  by_cases e : n = x
  · subst e
    rw [h1, qa_sE hw]
  · rw [h2 _ (by omega), qa_sN hw e]
    exact h n hn
theorem qc_edge {post : Int32 → St2 → Prop} {l F B M S V H K Fr To St En x y : Nat} {e p2 : Int32} {u : St2} (h : qc_R l F B M S V H K Fr To St En u) (hl : l < 3) (hx : x < 8) (hy : y < 8) (he : e = nI (x + 8 * y))
    (Q : (p2 = 0 ∧ ∀ u', qc_R l (qc_off F x y) (qc_off B y x) M S V H K Fr To St En u' → post (nI ((qa_f F x >>> y) % 2)) u') ∨ (¬ p2 = 0 ∧ ∀ u', qc_R l (qc_on F x y) (qc_on B y x) M S V H K Fr To St En u' → post (nI ((qa_f F x >>> y) % 2)) u')) : wpX_edge post u (nI l) e p2 := by
  obtain ⟨f1, f2, f3, f4, f5, f6, a1, a2, a3, a4, a5, a6, a7, a8, a9, a10⟩ := u
  obtain ⟨rfl, rfl, rfl, rfl, hG, hMv, hK⟩ := h
  subst he
  have i1 : nI l * 8 + nI x = nI (l * 8 + x) := qb_pr l x
  have i2 : nI l * 8 + nI y = nI (l * 8 + y) := qb_pr l y
  have c1 : (nI l * 8 + nI x).toNatClampNeg = l * 8 + x := by rw [i1, nI_clamp (by omega)]
  have c2 : (nI l * 8 + nI y).toNatClampNeg = l * 8 + y := by rw [i2, nI_clamp (by omega)]
  have v1 : vp_in (nI l * 8 + nI x) 24 := pk_in (l * 8 + x) 24 (by omega) i1
  have v2 : vp_in (nI l * 8 + nI y) 24 := pk_in (l * 8 + y) 24 (by omega) i2
  have hf := qa_lt F x
  have hb := qa_lt B y
  unfold wpX_edge
  refine qc_bl hl (br_t rfl (br_f (nI_pos (by omega)) (pk_le (x + 8 * y) 63 (fun _ => ?_) (fun z => absurd z (by omega)))))
  refine nm_r (e' := nI x) ?_ (nm_r (e' := nI y) ?_ ⟨v1, nm_r (e' := nI ((qa_f F x >>> y) % 2)) ?_ ⟨v1, v1, nm_r (e' := upd a1 (l * 8 + x) (nI (qa_f F x &&& (255 - 2 ^ y)))) ?_ ⟨v2, v2, nm_r (e' := upd a2 (l * 8 + y) (nI (qa_f B y &&& (255 - 2 ^ x)))) ?_ ?_⟩⟩⟩)
  · rw [pk_andN (by omega) 3 (by decide)]
    exact congrArg nI (by omega)
  · rw [pk_shrN (by omega) _ 3 (by decide)]
    exact congrArg nI (by omega)
  · rw [c1, (hG x hx).1, qb_bit hf hy]
  · rw [c1, (hG x hx).1, qc_clr _ hf y hy]
  · rw [c2, (hG y hy).2, qc_clr _ hb x hx]
  · rcases Q with ⟨hp, Q⟩ | ⟨hp, Q⟩
    · refine br_t hp (Q _ ⟨rfl, rfl, rfl, rfl, ?_, hMv, hK⟩)
      intro n hn
      exact ⟨qc_row (b := upd a1 (l * 8 + x) (nI (qa_f F x &&& (255 - 2 ^ y)))) hx (qc_c8 hf) (fun n hn => (hG n hn).1) pk_us (fun j hj => pk_un hj) n hn, qc_row (b := upd a2 (l * 8 + y) (nI (qa_f B y &&& (255 - 2 ^ x)))) hy (qc_c8 hb) (fun n hn => (hG n hn).2) pk_us (fun j hj => pk_un hj) n hn⟩
    · refine br_f hp ⟨v1, v1, nm_r (e' := upd (upd a1 (l * 8 + x) (nI (qa_f F x &&& (255 - 2 ^ y)))) (l * 8 + x) (nI ((qa_f F x &&& (255 - 2 ^ y)) ||| 2 ^ y))) ?_ ⟨v2, v2, nm_r (e' := upd (upd a2 (l * 8 + y) (nI (qa_f B y &&& (255 - 2 ^ x)))) (l * 8 + y) (nI ((qa_f B y &&& (255 - 2 ^ x)) ||| 2 ^ x))) ?_ (Q _ ⟨rfl, rfl, rfl, rfl, ?_, hMv, hK⟩)⟩⟩
      · rw [c1, pk_us, qd_sh y hy, qd_or]
      · rw [c2, pk_us, qd_sh x hx, qd_or]
      · intro n hn
        exact ⟨qc_row (b := upd (upd a1 (l * 8 + x) (nI (qa_f F x &&& (255 - 2 ^ y)))) (l * 8 + x) (nI ((qa_f F x &&& (255 - 2 ^ y)) ||| 2 ^ y))) hx (qc_o8 (qc_c8 hf) hy) (fun n hn => (hG n hn).1) pk_us (fun j hj => by rw [pk_un hj, pk_un hj]) n hn, qc_row (b := upd (upd a2 (l * 8 + y) (nI (qa_f B y &&& (255 - 2 ^ x)))) (l * 8 + y) (nI ((qa_f B y &&& (255 - 2 ^ x)) ||| 2 ^ x))) hy (qc_o8 (qc_c8 hb) hx) (fun n hn => (hG n hn).2) pk_us (fun j hj => by rw [pk_un hj, pk_un hj]) n hn⟩
end
end
section
/-- the way from a to b in steps of st -/
def qe_w (st a b : Nat) : Nat := ((b + 8 - a) * st) % 8
theorem qe_wl (st a b : Nat) : qe_w st a b < 8 := Nat.mod_lt _ (by decide)
/-- the graph after i edges -/
def qe_F (st : Nat) : Nat → Nat
  | 0 => 0
  | i + 1 => qc_on (qe_F st i) i ((i + st) % 8)
def qe_B (st : Nat) : Nat → Nat
  | 0 => 0
  | i + 1 => qc_on (qe_B st i) ((i + st) % 8) i
def qe_D1 (st a b : Nat) : Nat := qe_w st a b + 1
def qe_D2 (st a b : Nat) : Nat := min (qe_w st a b) (8 - qe_w st a b) + 1
def qe_D3 (st c a b : Nat) : Nat := cond (Nat.beq b c) (cond (Nat.beq (qe_w st a b % 2) 0) (qe_w st a b + 1) 0) 0
def qe_D4 (c a b : Nat) : Nat := cond (Nat.beq a c) (cond (Nat.beq b c) 1 0) 0
def qe_D5 (st a c b : Nat) : Nat := cond (Nat.beq b c) (cond (Nat.beq (qe_w st a c) 0) 1 0) 0
theorem qe_A1 : ∀ s, s < 4 → ∀ a, a < 8 → qa_se (qe_F (1 + 2 * s) 8) (qe_B (1 + 2 * s) 8) 8623620608 8606777856 12885098497 5 (qa_f 2 0) a (fun T => qa_ck T (qa_f 3 0) (qe_D1 (1 + 2 * s) a) 8) = true := by decide +kernel
theorem qe_A2 : ∀ s, s < 4 → ∀ a, a < 8 → qa_se (qe_F (1 + 2 * s) 8) (qe_B (1 + 2 * s) 8) 40723896929684922575610263503360 162816050056956126772637384901120 183019848059779911021920128270337 14 (qa_f 8 0) a (fun T => qa_ck T (qa_f 9 0) (qe_D2 (1 + 2 * s) a) 8) = true := by decide +kernel
theorem qe_A3 : ∀ s, s < 4 → ∀ c, c < 8 → ∀ a, a < 8 → qa_se (qe_F (1 + 2 * s) 8) (qe_B (1 + 2 * s) 8) (qa_t (qa_t 565157600296960 7 (3 + c)) 8 2) 92667195144169128448 111186274996881326849 9 (qa_f 1540 0) a (fun T => qa_ck T (qa_f 7 0) (qe_D3 (1 + 2 * s) c a) 8) = true := by decide +kernel
theorem qe_A5 : ∀ s, s < 4 → ∀ c, c < 8 → ∀ a, a < 8 → qa_se (qc_off (qe_F (1 + 2 * s) 8) a ((a + (1 + 2 * s)) % 8)) (qc_off (qe_B (1 + 2 * s) 8) ((a + (1 + 2 * s)) % 8) a) (qa_t (qa_t 565157600296960 7 (3 + c)) 8 2) 92667195144169128448 111186274996881326849 9 (qa_f 1540 0) a (fun T => qa_ck T (qa_f 7 0) (qe_D5 (1 + 2 * s) a c) 8) = true := by decide +kernel
/-- the last expression is 'at c' alone -/
theorem qe_A4 : ∀ s, s < 4 → ∀ c, c < 8 → ∀ a, a < 8 → qa_se (qc_off (qe_F (1 + 2 * s) 8) c ((c + (1 + 2 * s)) % 8)) (qc_off (qe_B (1 + 2 * s) 8) ((c + (1 + 2 * s)) % 8) c) (qa_t 59518042041229444574738416262975456698603150706254274548156017455236038149669378 34 (3 + c)) 198016409626746950671423680582934394146149461912473353746221569788580448271472001536 205634487870865619913360574197548660116733959397467846285339065816038302578318312193 35 (qa_f 6680 1) a (fun T => qa_ck T (qa_f 6937 1) (qe_D4 c a) 8) = true := by decide +kernel
end
section
/-- the graph without the edge of node a -/
def qe_F5 (st a : Nat) : Nat := qc_off (qe_F st 8) a ((a + st) % 8)
def qe_B5 (st a : Nat) : Nat := qc_off (qe_B st 8) ((a + st) % 8) a
theorem qe_S1 {l s a : Nat} (hl : l < 3) (hs : s < 4) (ha : a < 8) : qd_SP (qc_R l (qe_F (1 + 2 * s) 8) (qe_B (1 + 2 * s) 8) 2 4 5 1 8623620608 8606777856 12885098497 2 3) a (qe_D1 (1 + 2 * s) a) := by
  refine qc_sp (H := 0) hl (by decide) (by decide) ha (by decide) (fun b _ => ?_) (qe_A1 s hs a ha)
  have := qe_wl (1 + 2 * s) a b
  unfold qe_D1
  omega
theorem qe_S2 {l s a : Nat} (hl : l < 3) (hs : s < 4) (ha : a < 8) : qd_SP (qc_R l (qe_F (1 + 2 * s) 8) (qe_B (1 + 2 * s) 8) 5 10 14 1 40723896929684922575610263503360 162816050056956126772637384901120 183019848059779911021920128270337 8 9) a (qe_D2 (1 + 2 * s) a) := by
  refine qc_sp (H := 0) hl (by decide) (by decide) ha (by decide) (fun b _ => ?_) (qe_A2 s hs a ha)
  have := qe_wl (1 + 2 * s) a b
  unfold qe_D2
  omega
theorem qe_c01 {x : Bool} {v w : Nat} (hv : v < 256) (hw : w < 256) : cond x v w < 256 := by
  cases x with
  | true => exact hv
  | false => exact hw
theorem qe_S3 {l s c a : Nat} (hl : l < 3) (hs : s < 4) (hc : c < 8) (ha : a < 8) : qd_SP (qc_R l (qe_F (1 + 2 * s) 8) (qe_B (1 + 2 * s) 8) 6 8 9 1 (qa_t (qa_t 565157600296960 7 (3 + c)) 8 2) 92667195144169128448 111186274996881326849 1540 7) a (qe_D3 (1 + 2 * s) c a) := by
  refine qc_sp (H := 0) hl (by decide) (by decide) ha (by decide) (fun b _ => ?_) (qe_A3 s hs c hc a ha)
  have := qe_wl (1 + 2 * s) a b
  exact qe_c01 (qe_c01 (by omega) (by decide)) (by decide)
theorem qe_S5 {l s c a : Nat} (hl : l < 3) (hs : s < 4) (hc : c < 8) (ha : a < 8) : qd_SP (qc_R l (qe_F5 (1 + 2 * s) a) (qe_B5 (1 + 2 * s) a) 6 8 9 1 (qa_t (qa_t 565157600296960 7 (3 + c)) 8 2) 92667195144169128448 111186274996881326849 1540 7) a (qe_D5 (1 + 2 * s) a c) := by
  refine qc_sp (H := 0) hl (by decide) (by decide) ha (by decide) (fun b _ => ?_) (qe_A5 s hs c hc a ha)
  exact qe_c01 (qe_c01 (by decide) (by decide)) (by decide)
theorem qe_S4 {l s c a : Nat} (hl : l < 3) (hs : s < 4) (hc : c < 8) (ha : a < 8) : qd_SP (qc_R l (qe_F5 (1 + 2 * s) c) (qe_B5 (1 + 2 * s) c) 14 28 35 2 (qa_t 59518042041229444574738416262975456698603150706254274548156017455236038149669378 34 (3 + c)) 198016409626746950671423680582934394146149461912473353746221569788580448271472001536 205634487870865619913360574197548660116733959397467846285339065816038302578318312193 6680 6937) a (qe_D4 c a) := by
  refine qc_sp (H := 1) hl (by decide) (by decide) ha (by decide) (fun b _ => ?_) (qe_A4 s hs c hc a ha)
  exact qe_c01 (qe_c01 (by decide) (by decide)) (by decide)
theorem qe_p0 : qd_prs (fun _ _ => 0) 8 = 0 ∧ qd_wd (fun _ _ => 0) 8 = 0 ∧ qd_lps (fun _ _ => 0) 8 = 0 ∧ qd_set (fun _ => 0) 8 = 0 := by decide +kernel
theorem qe_p1 : ∀ s, s < 4 → qd_prs (qe_D1 (1 + 2 * s)) 8 = 64 ∧ qd_wd (qe_D1 (1 + 2 * s)) 8 = 8 ∧ qd_lps (qe_D1 (1 + 2 * s)) 8 = 255 := by decide +kernel
theorem qe_p2 : ∀ s, s < 4 → qd_wd (qe_D2 (1 + 2 * s)) 8 = 5 := by decide +kernel
theorem qe_p3 : ∀ s, s < 4 → ∀ c, c < 8 → qd_prs (qe_D3 (1 + 2 * s) c) 8 = 4 := by decide +kernel
theorem qe_p3s : ∀ s, s < 4 → ∀ c, c < 8 → ∀ a, a < 8 → (qe_w (1 + 2 * s) a c % 2 = 0 → qd_set (qe_D3 (1 + 2 * s) c a) 8 = 2 ^ c) ∧ (qe_w (1 + 2 * s) a c % 2 ≠ 0 → qd_set (qe_D3 (1 + 2 * s) c a) 8 = 0) := by decide +kernel
theorem qe_p4 : ∀ c, c < 8 → qd_prs (qe_D4 c) 8 = 1 ∧ qd_lps (qe_D4 c) 8 = 2 ^ c := by decide +kernel
theorem qe_way : ∀ s, s < 4 → ∀ a, a < 8 → ∀ b, b < 8 → ∀ i, i < 8 → ((a + i * (1 + 2 * s)) % 8 = b ↔ i = qe_w (1 + 2 * s) a b) := by decide +kernel
theorem qe_old : ∀ s, s < 4 → ∀ a, a < 8 → (qa_f (qe_F (1 + 2 * s) 8) a >>> ((a + (1 + 2 * s)) % 8)) % 2 = 1 := by decide +kernel
theorem qe_d3t {st a b : Nat} (h : qe_w st a b % 2 = 0) : qd_v (qe_D3 st b a b) = nI (qe_w st a b) := by
  unfold qe_D3
  rw [h, Nat.beq_refl]
  rfl
theorem qe_d3f {st a b : Nat} (h : qe_w st a b % 2 ≠ 0) : qd_v (qe_D3 st b a b) = -5 := by
  unfold qe_D3
  rw [show qe_w st a b % 2 = 1 by omega, Nat.beq_refl]
  rfl
theorem qe_d5t {st a b : Nat} (h : qe_w st a b = 0) : qd_v (qe_D5 st a b b) = 0 := by
  unfold qe_D5
  rw [h, Nat.beq_refl]
  rfl
theorem qe_d5f {st a b : Nat} (h : qe_w st a b ≠ 0) : qd_v (qe_D5 st a b b) = -5 := by
  unfold qe_D5
  rw [Nat.beq_refl]
  cases e : Nat.beq (qe_w st a b) 0 with
  | true => exact absurd (Nat.eq_of_beq_eq_true e) h
  | false => rfl
/-- the ends of the edge of node i, as the law says them -/
theorem qe_end (i st : Nat) (hi : i < 8) (hs : st < 8) : nI i + (8 * ((nI i + nI st) &&& 7)) = nI (i + 8 * ((i + st) % 8)) := by
  rw [nI_add, pk_andN (by omega) 3 (by decide), show (8 : Int32) = nI 8 from rfl, pk_mul, nI_add]
end
section
section
variable {f1 f2 f3 f4 f5 f6 : Int32} {a1 a2 a3 a4 a5 a6 a7 a8 a9 a10 : Nat → Int32} {post : Int32 → St0 → Prop} {mc ms kc ks l s a b : Nat}
theorem qf_508 (hl : l < 3) (hs : s < 4) (ha : a < 8) (hp : post 1 ()) (h : qc_R l (qe_F5 (1 + 2 * s) a) (qe_B5 (1 + 2 * s) a) 7 14 10 6 9481771134232385683970 56872108001510262309376 61576171293648143844097 13228600197632 14332423635713 (f1, f2, f3, f4, f5, f6, a1, a2, a3, a4, a5, a6, a7, a8, a9, a10)) : ∃ n, wL_lawOf_508 post mc ms (nI a) kc ks n 0 f1 f2 f3 f4 f5 f6 a1 a2 a3 a4 a5 a6 a7 a8 a9 a10 := by
  refine ⟨6, ?_⟩
  refine pk_le 5 0 (fun z => absurd z (by omega)) (fun _ => qc_or (H := 4) h (by decide) (by decide) (by decide) (by decide) (fun u' h => ?_))
  obtain ⟨f1, f2, f3, f4, f5, f6, a1, a2, a3, a4, a5, a6, a7, a8, a9, a10⟩ := u'
  have h : qc_R l (qe_F5 (1 + 2 * s) a) (qe_B5 (1 + 2 * s) a) 8 16 14 5 40723896929684922576709775131138 264388728082071175986937017401856 305428290045589605774618167411457 60230468096 64542278401 (f1, f2, f3, f4, f5, f6, a1, a2, a3, a4, a5, a6, a7, a8, a9, a10) := h
  refine br_t (by decide) (nm_r (e' := nI 1) (by decide) ?_)
  refine pk_le 5 1 (fun z => absurd z (by omega)) (fun _ => qc_or (H := 3) h (by decide) (by decide) (by decide) (by decide) (fun u' h => ?_))
  obtain ⟨f1, f2, f3, f4, f5, f6, a1, a2, a3, a4, a5, a6, a7, a8, a9, a10⟩ := u'
  have h : qc_R l (qe_F5 (1 + 2 * s) a) (qe_B5 (1 + 2 * s) a) 9 18 18 4 174907805478671554051260535471751854948866 1309087616533921292236881808177855079907840 1486712301728730576948259690125835383407361 268698112 285541121 (f1, f2, f3, f4, f5, f6, a1, a2, a3, a4, a5, a6, a7, a8, a9, a10) := h
  refine br_t (by decide) (nm_r (e' := nI 2) (by decide) ?_)
  refine pk_le 5 2 (fun z => absurd z (by omega)) (fun _ => qc_or (H := 2) h (by decide) (by decide) (by decide) (by decide) (fun u' h => ?_))
  obtain ⟨f1, f2, f3, f4, f5, f6, a1, a2, a3, a4, a5, a6, a7, a8, a9, a10⟩ := u'
  have h : qc_R l (qe_F5 (1 + 2 * s) a) (qe_B5 (1 + 2 * s) a) 10 20 22 3 751223304346023950175660307426622148832715255972354 6367865798407120033810028852614456196139079835058688 7136603929628825226872203911546787533387928510464769 1180160 1245953 (f1, f2, f3, f4, f5, f6, a1, a2, a3, a4, a5, a6, a7, a8, a9, a10) := h
  refine br_t (by decide) (nm_r (e' := nI 3) (by decide) ?_)
  refine pk_le 5 3 (fun z => absurd z (by omega)) (fun _ => qc_or (H := 1) h (by decide) (by decide) (by decide) (by decide) (fun u' h => ?_))
  obtain ⟨f1, f2, f3, f4, f5, f6, a1, a2, a3, a4, a5, a6, a7, a8, a9, a10⟩ := u'
  have h : qc_R l (qe_F5 (1 + 2 * s) a) (qe_B5 (1 + 2 * s) a) 11 22 26 2 3226479524159227533637194475602648048985756599281529143820802 30551146466687344242791654775544213336609857664288537291522560 33877959623296231996277895242661177242084730016369901926941441 5120 5377 (f1, f2, f3, f4, f5, f6, a1, a2, a3, a4, a5, a6, a7, a8, a9, a10) := h
  refine br_t (by decide) (nm_r (e' := nI 4) (by decide) ?_)
  refine pk_le 5 4 (fun z => absurd z (by omega)) (fun _ => qc_or (H := 0) h (by decide) (by decide) (by decide) (by decide) (fun u' h => ?_))
  obtain ⟨f1, f2, f3, f4, f5, f6, a1, a2, a3, a4, a5, a6, a7, a8, a9, a10⟩ := u'
  have h : qc_R l (qe_F5 (1 + 2 * s) a) (qe_B5 (1 + 2 * s) a) 12 24 30 1 13857624037477524153594490201905243261392030563730344769581225108177410 144965959180511910167352470414635753722629931993756588960319492860412416 159362351029238762593306916536204605563176715825630064934398428329607937 22 23 (f1, f2, f3, f4, f5, f6, a1, a2, a3, a4, a5, a6, a7, a8, a9, a10) := h
  refine br_t (by decide) (nm_r (e' := nI 5) (by decide) ?_)
  refine pk_le 5 5 (fun _ => qc_orL h (by decide) (br_t rfl (qc_star (H := 0) h (by decide) (by decide) (by decide) (by decide) (fun u' h => ?_)))) (fun z => absurd z (by omega))
  obtain ⟨f1, f2, f3, f4, f5, f6, a1, a2, a3, a4, a5, a6, a7, a8, a9, a10⟩ := u'
  have h : qc_R l (qe_F5 (1 + 2 * s) a) (qe_B5 (1 + 2 * s) a) 13 26 34 1 59518042041229444574738416262975456698603150706254274548156017455236038149669378 714100260071341906165830671170755190280017321240433619084371924472981805318013440 743628143933256964823576212255650431792613091187506153311975726388241248081478401 24 25 (f1, f2, f3, f4, f5, f6, a1, a2, a3, a4, a5, a6, a7, a8, a9, a10) := h
  refine br_t rfl (qc_at h ha (by decide) (by decide) (by decide) (by decide) (fun u' h => ?_))
  obtain ⟨f1, f2, f3, f4, f5, f6, a1, a2, a3, a4, a5, a6, a7, a8, a9, a10⟩ := u'
  have h : qc_R l (qe_F5 (1 + 2 * s) a) (qe_B5 (1 + 2 * s) a) 14 28 35 2 (qa_t 59518042041229444574738416262975456698603150706254274548156017455236038149669378 34 (3 + a)) 198016409626746950671423680582934394146149461912473353746221569788580448271472001536 205634487870865619913360574197548660116733959397467846285339065816038302578318312193 6680 6937 (f1, f2, f3, f4, f5, f6, a1, a2, a3, a4, a5, a6, a7, a8, a9, a10) := h
  refine br_t rfl (qc_steps h (br_t rfl (qc_orF h (br_t rfl (qc_starF h (br_t rfl (qc_at9 (br_t rfl (qc_back3 (br_t rfl ?_))))))))))
  refine qd_pairs (D := qe_D4 a) (fun x hx => qe_S4 hl hs ha hx) h (fun u' h => ?_)
  obtain ⟨f1, f2, f3, f4, f5, f6, a1, a2, a3, a4, a5, a6, a7, a8, a9, a10⟩ := u'
  refine br_t (by rw [(qe_p4 a ha).1]; rfl) (qd_loops (D := qe_D4 a) (fun x hx => qe_S4 hl hs ha hx) h (fun u' h => ?_))
  obtain ⟨f1, f2, f3, f4, f5, f6, a1, a2, a3, a4, a5, a6, a7, a8, a9, a10⟩ := u'
  exact br_t (by rw [(qe_p4 a ha).2, qd_sh a ha]) hp
theorem qf_438 (hl : l < 3) (hs : s < 4) (ha : a < 8) (hp : post 1 ()) (h : qc_R l (qe_F5 (1 + 2 * s) a) (qe_B5 (1 + 2 * s) a) 0 0 0 0 0 0 0 0 0 (f1, f2, f3, f4, f5, f6, a1, a2, a3, a4, a5, a6, a7, a8, a9, a10)) : ∃ n, wL_lawOf_438 post mc ms (nI a) kc ks n 0 f1 f2 f3 f4 f5 f6 a1 a2 a3 a4 a5 a6 a7 a8 a9 a10 := by
  refine ⟨7, ?_⟩
  refine pk_le 6 0 (fun z => absurd z (by omega)) (fun _ => qc_atS h (by decide) (by decide) (by decide) (by decide) (fun u' h => ?_))
  obtain ⟨f1, f2, f3, f4, f5, f6, a1, a2, a3, a4, a5, a6, a7, a8, a9, a10⟩ := u'
  have h : qc_R l (qe_F5 (1 + 2 * s) a) (qe_B5 (1 + 2 * s) a) 1 2 1 1 2 0 1 0 1 (f1, f2, f3, f4, f5, f6, a1, a2, a3, a4, a5, a6, a7, a8, a9, a10) := h
  refine br_t (by decide) (nm_r (e' := nI 1) (by decide) ?_)
  refine pk_le 6 1 (fun z => absurd z (by omega)) (fun _ => qc_atS h (by decide) (by decide) (by decide) (by decide) (fun u' h => ?_))
  obtain ⟨f1, f2, f3, f4, f5, f6, a1, a2, a3, a4, a5, a6, a7, a8, a9, a10⟩ := u'
  have h : qc_R l (qe_F5 (1 + 2 * s) a) (qe_B5 (1 + 2 * s) a) 2 4 2 2 514 512 769 512 769 (f1, f2, f3, f4, f5, f6, a1, a2, a3, a4, a5, a6, a7, a8, a9, a10) := h
  refine br_t (by decide) (nm_r (e' := nI 2) (by decide) ?_)
  refine pk_le 6 2 (fun z => absurd z (by omega)) (fun _ => qc_atS h (by decide) (by decide) (by decide) (by decide) (fun u' h => ?_))
  obtain ⟨f1, f2, f3, f4, f5, f6, a1, a2, a3, a4, a5, a6, a7, a8, a9, a10⟩ := u'
  have h : qc_R l (qe_F5 (1 + 2 * s) a) (qe_B5 (1 + 2 * s) a) 3 6 3 3 131586 262656 328449 262656 328449 (f1, f2, f3, f4, f5, f6, a1, a2, a3, a4, a5, a6, a7, a8, a9, a10) := h
  refine br_t (by decide) (nm_r (e' := nI 3) (by decide) ?_)
  refine pk_le 6 3 (fun z => absurd z (by omega)) (fun _ => qc_atS h (by decide) (by decide) (by decide) (by decide) (fun u' h => ?_))
  obtain ⟨f1, f2, f3, f4, f5, f6, a1, a2, a3, a4, a5, a6, a7, a8, a9, a10⟩ := u'
  have h : qc_R l (qe_F5 (1 + 2 * s) a) (qe_B5 (1 + 2 * s) a) 4 8 4 4 33686018 100925952 117768961 100925952 117768961 (f1, f2, f3, f4, f5, f6, a1, a2, a3, a4, a5, a6, a7, a8, a9, a10) := h
  refine br_t (by decide) (nm_r (e' := nI 4) (by decide) ?_)
  refine pk_le 6 4 (fun z => absurd z (by omega)) (fun _ => qc_atS h (by decide) (by decide) (by decide) (by decide) (fun u' h => ?_))
  obtain ⟨f1, f2, f3, f4, f5, f6, a1, a2, a3, a4, a5, a6, a7, a8, a9, a10⟩ := u'
  have h : qc_R l (qe_F5 (1 + 2 * s) a) (qe_B5 (1 + 2 * s) a) 5 10 5 5 8623620610 34460664320 38772474625 34460664320 38772474625 (f1, f2, f3, f4, f5, f6, a1, a2, a3, a4, a5, a6, a7, a8, a9, a10) := h
  refine br_t (by decide) (nm_r (e' := nI 5) (by decide) ?_)
  refine pk_le 6 5 (fun z => absurd z (by omega)) (fun _ => qc_atS h (by decide) (by decide) (by decide) (by decide) (fun u' h => ?_))
  obtain ⟨f1, f2, f3, f4, f5, f6, a1, a2, a3, a4, a5, a6, a7, a8, a9, a10⟩ := u'
  have h : qc_R l (qe_F5 (1 + 2 * s) a) (qe_B5 (1 + 2 * s) a) 6 12 6 6 2207646876162 11029576942080 12133400380161 11029576942080 12133400380161 (f1, f2, f3, f4, f5, f6, a1, a2, a3, a4, a5, a6, a7, a8, a9, a10) := h
  refine br_t (by decide) (nm_r (e' := nI 6) (by decide) ?_)
  refine pk_le 6 6 (fun _ => qc_atF h (by decide) (br_t rfl (qc_labelF h (by decide) (br_t rfl (qc_star (H := 5) h (by decide) (by decide) (by decide) (by decide) (fun u' h => ?_)))))) (fun z => absurd z (by omega))
  obtain ⟨f1, f2, f3, f4, f5, f6, a1, a2, a3, a4, a5, a6, a7, a8, a9, a10⟩ := u'
  have h : qc_R l (qe_F5 (1 + 2 * s) a) (qe_B5 (1 + 2 * s) a) 7 14 10 6 9481771134232385683970 56872108001510262309376 61576171293648143844097 13228600197632 14332423635713 (f1, f2, f3, f4, f5, f6, a1, a2, a3, a4, a5, a6, a7, a8, a9, a10) := h
  exact br_t rfl (qc_steps h (br_t rfl (qf_508 hl hs ha hp h)))
theorem qf_426 {z0 z1 : Int32} (hz : z1 = z0) (hl : l < 3) (hs : s < 4) (ha : a < 8) (hp : post 1 ()) (h : qc_R l (qe_F5 (1 + 2 * s) a) (qe_B5 (1 + 2 * s) a) 6 8 9 1 (qa_t (qa_t 565157600296960 7 (3 + b)) 8 2) 92667195144169128448 111186274996881326849 1540 7 (f1, f2, f3, f4, f5, f6, a1, a2, a3, a4, a5, a6, a7, a8, a9, a10)) : wL_lawOf_426 post mc ms (nI a) z0 z1 kc ks f1 f2 f3 f4 f5 f6 a1 a2 a3 a4 a5 a6 a7 a8 a9 a10 := by
  unfold wL_lawOf_426
  refine br_t hz (qc_clear h (fun u' h => ?_))
  obtain ⟨f1, f2, f3, f4, f5, f6, a1, a2, a3, a4, a5, a6, a7, a8, a9, a10⟩ := u'
  exact qf_438 hl hs ha hp h
theorem qf_377 {z0 z1 : Int32} (hz : z1 = z0) (hl : l < 3) (hs : s < 4) (ha : a < 8) (hb : b < 8) (hp : post 1 ()) (h : qc_R l (qe_F (1 + 2 * s) 8) (qe_B (1 + 2 * s) 8) 6 8 9 1 (qa_t (qa_t 565157600296960 7 (3 + b)) 8 2) 92667195144169128448 111186274996881326849 1540 7 (f1, f2, f3, f4, f5, f6, a1, a2, a3, a4, a5, a6, a7, a8, a9, a10)) : wL_lawOf_377 post mc ms (nI (1 + 2 * s)) (nI l) (nI a) (nI b) (nI (qe_w (1 + 2 * s) a b)) z0 z1 kc ks f1 f2 f3 f4 f5 f6 a1 a2 a3 a4 a5 a6 a7 a8 a9 a10 := by
  have hw := qe_wl (1 + 2 * s) a b
  unfold wL_lawOf_377
  refine br_t hz (qc_edge (x := a) (y := (a + (1 + 2 * s)) % 8) h hl ha (Nat.mod_lt _ (by decide)) (qe_end a (1 + 2 * s) ha (by omega)) (Or.inl ⟨rfl, fun u' h => ?_⟩))
  obtain ⟨f1, f2, f3, f4, f5, f6, a1, a2, a3, a4, a5, a6, a7, a8, a9, a10⟩ := u'
  have h : qc_R l (qe_F5 (1 + 2 * s) a) (qe_B5 (1 + 2 * s) a) 6 8 9 1 (qa_t (qa_t 565157600296960 7 (3 + b)) 8 2) 92667195144169128448 111186274996881326849 1540 7 (f1, f2, f3, f4, f5, f6, a1, a2, a3, a4, a5, a6, a7, a8, a9, a10) := h
  refine br_t (by rw [qe_old s hs a ha]; rfl) (qd_shortest (qe_S5 hl hs hb ha) ha hb h (fun u' h => ?_))
  obtain ⟨f1, f2, f3, f4, f5, f6, a1, a2, a3, a4, a5, a6, a7, a8, a9, a10⟩ := u'
  exact pk_eq (qe_w (1 + 2 * s) a b) 0 (fun e => qf_426 (qe_d5t e) hl hs ha hp h) (fun e => qf_426 (qe_d5f e) hl hs ha hp h)
theorem qf_345 {z0 z1 : Int32} (hz : z1 = z0) (hl : l < 3) (hs : s < 4) (ha : a < 8) (hb : b < 8) (hp : post 1 ()) (h : qc_R l (qe_F (1 + 2 * s) 8) (qe_B (1 + 2 * s) 8) 6 8 9 1 (qa_t (qa_t 565157600296960 7 (3 + b)) 8 2) 92667195144169128448 111186274996881326849 1540 7 (f1, f2, f3, f4, f5, f6, a1, a2, a3, a4, a5, a6, a7, a8, a9, a10)) : wL_lawOf_345 post mc ms (nI (1 + 2 * s)) (nI l) (nI a) (nI b) (nI (qe_w (1 + 2 * s) a b)) z0 z1 kc ks f1 f2 f3 f4 f5 f6 a1 a2 a3 a4 a5 a6 a7 a8 a9 a10 := by
  have hw := qe_wl (1 + 2 * s) a b
  unfold wL_lawOf_345
  refine br_t hz (qd_pairs (D := qe_D3 (1 + 2 * s) b) (fun x hx => qe_S3 hl hs hb hx) h (fun u' h => ?_))
  obtain ⟨f1, f2, f3, f4, f5, f6, a1, a2, a3, a4, a5, a6, a7, a8, a9, a10⟩ := u'
  refine br_t (by rw [qe_p3 s hs b hb]; rfl) (qd_reach (qe_S3 hl hs hb ha) ha h (fun u' h => ⟨by decide, ?_⟩))
  obtain ⟨f1, f2, f3, f4, f5, f6, a1, a2, a3, a4, a5, a6, a7, a8, a9, a10⟩ := u'
  exact pk_eq (qe_w (1 + 2 * s) a b % 2) 0 (fun e => qf_377 (by rw [(qe_p3s s hs b hb a ha).1 e, qd_sh b hb]) hl hs ha hb hp h) (fun e => qf_377 (by rw [(qe_p3s s hs b hb a ha).2 e]; rfl) hl hs ha hb hp h) (pk_rem (d := 2) (by omega) (by decide) (by decide))
theorem qf_267 {z0 z1 : Int32} (hz : z1 = z0) (hl : l < 3) (hs : s < 4) (ha : a < 8) (hb : b < 8) (hp : post 1 ()) (h : qc_R l (qe_F (1 + 2 * s) 8) (qe_B (1 + 2 * s) 8) 5 10 14 1 40723896929684922575610263503360 162816050056956126772637384901120 183019848059779911021920128270337 8 9 (f1, f2, f3, f4, f5, f6, a1, a2, a3, a4, a5, a6, a7, a8, a9, a10)) : wL_lawOf_267 post mc ms (nI (1 + 2 * s)) (nI l) (nI a) (nI b) (nI (qe_w (1 + 2 * s) a b)) z0 z1 kc ks f1 f2 f3 f4 f5 f6 a1 a2 a3 a4 a5 a6 a7 a8 a9 a10 := by
  have hw := qe_wl (1 + 2 * s) a b
  unfold wL_lawOf_267
  refine br_t hz (qd_widest (D := qe_D2 (1 + 2 * s)) (fun x hx => qe_S2 hl hs hx) h (fun u' h => ?_))
  obtain ⟨f1, f2, f3, f4, f5, f6, a1, a2, a3, a4, a5, a6, a7, a8, a9, a10⟩ := u'
  refine br_t (by rw [qe_p2 s hs]; rfl) (qc_clear h (fun u' h => ?_))
  obtain ⟨f1, f2, f3, f4, f5, f6, a1, a2, a3, a4, a5, a6, a7, a8, a9, a10⟩ := u'
  refine qc_label h hl (by decide) (by decide) (by decide) (by decide) (fun u' h => ?_)
  obtain ⟨f1, f2, f3, f4, f5, f6, a1, a2, a3, a4, a5, a6, a7, a8, a9, a10⟩ := u'
  have h : qc_R l (qe_F (1 + 2 * s) 8) (qe_B (1 + 2 * s) 8) 1 2 1 1 0 0 1 0 1 (f1, f2, f3, f4, f5, f6, a1, a2, a3, a4, a5, a6, a7, a8, a9, a10) := h
  refine qc_label h hl (by decide) (by decide) (by decide) (by decide) (fun u' h => ?_)
  obtain ⟨f1, f2, f3, f4, f5, f6, a1, a2, a3, a4, a5, a6, a7, a8, a9, a10⟩ := u'
  have h : qc_R l (qe_F (1 + 2 * s) 8) (qe_B (1 + 2 * s) 8) 2 4 2 2 0 512 769 512 769 (f1, f2, f3, f4, f5, f6, a1, a2, a3, a4, a5, a6, a7, a8, a9, a10) := h
  refine qc_then (H := 0) h (by decide) (by decide) (by decide) (fun u' h => ?_)
  obtain ⟨f1, f2, f3, f4, f5, f6, a1, a2, a3, a4, a5, a6, a7, a8, a9, a10⟩ := u'
  have h : qc_R l (qe_F (1 + 2 * s) 8) (qe_B (1 + 2 * s) 8) 3 4 3 1 131072 66048 131841 512 3 (f1, f2, f3, f4, f5, f6, a1, a2, a3, a4, a5, a6, a7, a8, a9, a10) := h
  refine qc_star (H := 0) h (by decide) (by decide) (by decide) (by decide) (fun u' h => ?_)
  obtain ⟨f1, f2, f3, f4, f5, f6, a1, a2, a3, a4, a5, a6, a7, a8, a9, a10⟩ := u'
  have h : qc_R l (qe_F (1 + 2 * s) 8) (qe_B (1 + 2 * s) 8) 4 6 7 1 565157600296960 1129211393802752 1407396358521601 4 5 (f1, f2, f3, f4, f5, f6, a1, a2, a3, a4, a5, a6, a7, a8, a9, a10) := h
  refine qc_at h hb (by decide) (by decide) (by decide) (by decide) (fun u' h => ?_)
  obtain ⟨f1, f2, f3, f4, f5, f6, a1, a2, a3, a4, a5, a6, a7, a8, a9, a10⟩ := u'
  have h : qc_R l (qe_F (1 + 2 * s) 8) (qe_B (1 + 2 * s) 8) 5 8 8 2 (qa_t 565157600296960 7 (3 + b)) 433474775621370368 505810554624017153 1540 1797 (f1, f2, f3, f4, f5, f6, a1, a2, a3, a4, a5, a6, a7, a8, a9, a10) := h
  refine qc_then (H := 0) h (by decide) (by decide) (by decide) (fun u' h => ?_)
  obtain ⟨f1, f2, f3, f4, f5, f6, a1, a2, a3, a4, a5, a6, a7, a8, a9, a10⟩ := u'
  have h : qc_R l (qe_F (1 + 2 * s) 8) (qe_B (1 + 2 * s) 8) 6 8 9 1 (qa_t (qa_t 565157600296960 7 (3 + b)) 8 2) 92667195144169128448 111186274996881326849 1540 7 (f1, f2, f3, f4, f5, f6, a1, a2, a3, a4, a5, a6, a7, a8, a9, a10) := h
  refine br_t rfl (qd_shortest (qe_S3 hl hs hb ha) ha hb h (fun u' h => ?_))
  obtain ⟨f1, f2, f3, f4, f5, f6, a1, a2, a3, a4, a5, a6, a7, a8, a9, a10⟩ := u'
  exact ⟨by decide, pk_eq (qe_w (1 + 2 * s) a b % 2) 0 (fun e => qf_345 (qe_d3t e) hl hs ha hb hp h) (fun e => qf_345 (qe_d3f e) hl hs ha hb hp h) (pk_rem (d := 2) (by omega) (by decide) (by decide))⟩
theorem qf_135 (hl : l < 3) (hs : s < 4) (ha : a < 8) (hb : b < 8) (hp : post 1 ()) (h : qc_R l (qe_F (1 + 2 * s) 8) (qe_B (1 + 2 * s) 8) 2 4 5 1 8623620608 8606777856 12885098497 2 3 (f1, f2, f3, f4, f5, f6, a1, a2, a3, a4, a5, a6, a7, a8, a9, a10)) : ∃ n, wL_lawOf_135 post mc ms (nI (1 + 2 * s)) (nI l) (nI a) (nI b) kc ks f1 f2 f3 f4 f5 f6 a1 a2 a3 a4 a5 a6 a7 a8 a9 a10 n 0 0 := by
  have hw := qe_wl (1 + 2 * s) a b
  refine pk_loop (σ := Int32) (fun n i x => wL_lawOf_135 post mc ms (nI (1 + 2 * s)) (nI l) (nI a) (nI b) kc ks f1 f2 f3 f4 f5 f6 a1 a2 a3 a4 a5 a6 a7 a8 a9 a10 n x (nI i)) (fun i x => x = nI (if qe_w (1 + 2 * s) a b < i then qe_w (1 + 2 * s) a b else 0)) 8 0 0 (by omega) (by rw [if_neg (by omega)]; rfl) ?_ ?_
  · intro n x hx
    rw [if_pos hw] at hx
    subst hx
    refine pk_le 8 8 (fun _ => qd_shortest (qe_S1 hl hs ha) ha hb h (fun u' h => ?_)) (fun z => absurd z (by omega))
    obtain ⟨f1, f2, f3, f4, f5, f6, a1, a2, a3, a4, a5, a6, a7, a8, a9, a10⟩ := u'
    refine br_t rfl (qd_pairs (D := qe_D1 (1 + 2 * s)) (fun x hx => qe_S1 hl hs hx) h (fun u' h => ?_))
    obtain ⟨f1, f2, f3, f4, f5, f6, a1, a2, a3, a4, a5, a6, a7, a8, a9, a10⟩ := u'
    refine br_t (by rw [(qe_p1 s hs).1]; rfl) (qd_widest (D := qe_D1 (1 + 2 * s)) (fun x hx => qe_S1 hl hs hx) h (fun u' h => ?_))
    obtain ⟨f1, f2, f3, f4, f5, f6, a1, a2, a3, a4, a5, a6, a7, a8, a9, a10⟩ := u'
    refine br_t (by rw [(qe_p1 s hs).2.1]; rfl) (qd_loops (D := qe_D1 (1 + 2 * s)) (fun x hx => qe_S1 hl hs hx) h (fun u' h => ?_))
    obtain ⟨f1, f2, f3, f4, f5, f6, a1, a2, a3, a4, a5, a6, a7, a8, a9, a10⟩ := u'
    refine br_t (by rw [(qe_p1 s hs).2.2]; rfl) (qc_back h hl (by decide) (by decide) (by decide) (by decide) (fun u' h => ?_))
    obtain ⟨f1, f2, f3, f4, f5, f6, a1, a2, a3, a4, a5, a6, a7, a8, a9, a10⟩ := u'
    have h : qc_R l (qe_F (1 + 2 * s) 8) (qe_B (1 + 2 * s) 8) 3 6 6 2 1108135248384 4406653288960 5510443237377 1026 1283 (f1, f2, f3, f4, f5, f6, a1, a2, a3, a4, a5, a6, a7, a8, a9, a10) := h
    refine qc_or (H := 0) h (by decide) (by decide) (by decide) (by decide) (fun u' h => ?_)
    obtain ⟨f1, f2, f3, f4, f5, f6, a1, a2, a3, a4, a5, a6, a7, a8, a9, a10⟩ := u'
    have h : qc_R l (qe_F (1 + 2 * s) 8) (qe_B (1 + 2 * s) 8) 4 8 10 1 9481771133132874056192 23667606685390095843840 33185981387440031727617 6 7 (f1, f2, f3, f4, f5, f6, a1, a2, a3, a4, a5, a6, a7, a8, a9, a10) := h
    refine br_t rfl (qc_star (H := 0) h (by decide) (by decide) (by decide) (by decide) (fun u' h => ?_))
    obtain ⟨f1, f2, f3, f4, f5, f6, a1, a2, a3, a4, a5, a6, a7, a8, a9, a10⟩ := u'
    have h : qc_R l (qe_F (1 + 2 * s) 8) (qe_B (1 + 2 * s) 8) 5 10 14 1 40723896929684922575610263503360 162816050056956126772637384901120 183019848059779911021920128270337 8 9 (f1, f2, f3, f4, f5, f6, a1, a2, a3, a4, a5, a6, a7, a8, a9, a10) := h
    refine br_t rfl (qd_shortest (qe_S2 hl hs ha) ha hb h (fun u' h => ?_))
    obtain ⟨f1, f2, f3, f4, f5, f6, a1, a2, a3, a4, a5, a6, a7, a8, a9, a10⟩ := u'
    have e8 : 8 - nI (qe_w (1 + 2 * s) a b) = nI (8 - qe_w (1 + 2 * s) a b) := pk_sub (a := 8) (by omega)
    refine pk_le (8 - qe_w (1 + 2 * s) a b) (qe_w (1 + 2 * s) a b) (fun z => qf_267 ?_ hl hs ha hb hp h) (fun z => qf_267 ?_ hl hs ha hb hp h) e8
    · rw [e8]
      show nI (min (qe_w (1 + 2 * s) a b) (8 - qe_w (1 + 2 * s) a b)) = _
      exact congrArg nI (by omega)
    · show nI (min (qe_w (1 + 2 * s) a b) (8 - qe_w (1 + 2 * s) a b)) = _
      exact congrArg nI (by omega)
  · intro n i x hi hx hn
    subst hx
    have hc : (nI a + nI i * nI (1 + 2 * s)) &&& 7 = nI ((a + i * (1 + 2 * s)) % 8) := by
      have h2 : i * (1 + 2 * s) ≤ 7 * 7 := Nat.mul_le_mul (by omega) (by omega)
      rw [pk_mul, nI_add]
      exact pk_andN (by omega) 3 (by decide)
    have hm : (a + i * (1 + 2 * s)) % 8 < 8 := Nat.mod_lt _ (by decide)
    have hq := qe_way s hs a ha b hb i hi
    refine pk_le 8 i (fun z => absurd z (by omega)) (fun _ => pk_eq ((a + i * (1 + 2 * s)) % 8) b (fun e => nm_r (nI_1 i) (hn _ ?_)) (fun e => nm_r (nI_1 i) (hn _ ?_)) hc)
    · have e2 := hq.mp e
      rw [if_pos (by omega), ← e2]
    · have e2 : ¬ i = qe_w (1 + 2 * s) a b := fun z => e (hq.mpr z)
      by_cases g : qe_w (1 + 2 * s) a b < i
      · rw [if_pos g, if_pos (by omega)]
      · rw [if_neg g, if_neg (by omega)]
theorem qf_42 (hl : l < 3) (hs : s < 4) (ha : a < 8) (hb : b < 8) (hp : post 1 ()) : ∀ (r i : Nat) (f1 f2 f3 f4 f5 f6 : Int32) (a1 a2 a3 a4 a5 a6 a7 a8 a9 a10 : Nat → Int32), i + r = 8 → qc_R l (qe_F (1 + 2 * s) i) (qe_B (1 + 2 * s) i) 0 0 0 0 0 0 0 0 0 (f1, f2, f3, f4, f5, f6, a1, a2, a3, a4, a5, a6, a7, a8, a9, a10) → wL_lawOf_42 post mc ms (nI (1 + 2 * s)) (nI l) (nI a) (nI b) kc ks (r + 1) (nI i) f1 f2 f3 f4 f5 f6 a1 a2 a3 a4 a5 a6 a7 a8 a9 a10 := by
  intro r
  induction r with
  | zero =>
    intro i f1 f2 f3 f4 f5 f6 a1 a2 a3 a4 a5 a6 a7 a8 a9 a10 hi h
    have e : i = 8 := by omega
    subst e
    refine pk_le 8 8 (fun _ => qd_pairs (D := fun _ _ => 0) (fun x hx => qc_sp0) h (fun u' h => ?_)) (fun z => absurd z (by omega))
    obtain ⟨f1, f2, f3, f4, f5, f6, a1, a2, a3, a4, a5, a6, a7, a8, a9, a10⟩ := u'
    refine br_t (by rw [qe_p0.1]; rfl) (qd_reach qc_sp0 ha h (fun u' h => ?_))
    obtain ⟨f1, f2, f3, f4, f5, f6, a1, a2, a3, a4, a5, a6, a7, a8, a9, a10⟩ := u'
    refine br_t (by rw [qe_p0.2.2.2]; rfl) (qd_widest (D := fun _ _ => 0) (fun x hx => qc_sp0) h (fun u' h => ?_))
    obtain ⟨f1, f2, f3, f4, f5, f6, a1, a2, a3, a4, a5, a6, a7, a8, a9, a10⟩ := u'
    refine br_t (by rw [qe_p0.2.1]; rfl) (qd_loops (D := fun _ _ => 0) (fun x hx => qc_sp0) h (fun u' h => ?_))
    obtain ⟨f1, f2, f3, f4, f5, f6, a1, a2, a3, a4, a5, a6, a7, a8, a9, a10⟩ := u'
    refine br_t (by rw [qe_p0.2.2.1]; rfl) (qc_label h hl (by decide) (by decide) (by decide) (by decide) (fun u' h => ?_))
    obtain ⟨f1, f2, f3, f4, f5, f6, a1, a2, a3, a4, a5, a6, a7, a8, a9, a10⟩ := u'
    have h : qc_R l (qe_F (1 + 2 * s) 8) (qe_B (1 + 2 * s) 8) 1 2 1 1 0 0 1 0 1 (f1, f2, f3, f4, f5, f6, a1, a2, a3, a4, a5, a6, a7, a8, a9, a10) := h
    refine br_t rfl (qc_star (H := 0) h (by decide) (by decide) (by decide) (by decide) (fun u' h => ?_))
    obtain ⟨f1, f2, f3, f4, f5, f6, a1, a2, a3, a4, a5, a6, a7, a8, a9, a10⟩ := u'
    have h : qc_R l (qe_F (1 + 2 * s) 8) (qe_B (1 + 2 * s) 8) 2 4 5 1 8623620608 8606777856 12885098497 2 3 (f1, f2, f3, f4, f5, f6, a1, a2, a3, a4, a5, a6, a7, a8, a9, a10) := h
    exact br_t rfl (qf_135 hl hs ha hb hp h)
  | succ r ih =>
    intro i f1 f2 f3 f4 f5 f6 a1 a2 a3 a4 a5 a6 a7 a8 a9 a10 hi h
    refine pk_le 8 i (fun z => absurd z (by omega)) (fun _ => qc_edge (x := i) (y := (i + (1 + 2 * s)) % 8) h hl (by omega) (Nat.mod_lt _ (by decide)) (qe_end i (1 + 2 * s) (by omega) (by omega)) (Or.inr ⟨by decide, fun u' h => ?_⟩))
    obtain ⟨f1, f2, f3, f4, f5, f6, a1, a2, a3, a4, a5, a6, a7, a8, a9, a10⟩ := u'
    exact nm_r (nI_1 i) (ih (i + 1) _ _ _ _ _ _ _ _ _ _ _ _ _ _ _ _ (by omega) h)
end
end
section
theorem qg_cell {post : Int32 → Prop} {L : Nat} {xs : Nat → Int32} (hL : L ≤ 3) (p : Nat) (hp : p < 3) (h : ∀ r, post r) : wpL_cellAt post L xs () (nI p) :=
  pk_le L p (fun _ => h _) (fun z => ⟨pk_in p L z, h _⟩)
theorem qg_lawOf {post : Int32 → St0 → Prop} (p0 p1 p2 : Int32) (hp : post 1 ()) : wpL_lawOf post 480 7680 () p0 p1 p2 := by
  obtain ⟨s, hs, es⟩ := pk_andE p0 (m := 3) 2 (by decide)
  obtain ⟨v, hv, ev⟩ := pk_andE p2 (m := 2147483647) 31 (by decide)
  obtain ⟨a, ha, ea⟩ := pk_andE p1 (m := 7) 3 (by decide)
  obtain ⟨b, hb, eb⟩ := pk_andE (p1 >>> ((3 : Int32) &&& 31)) (m := 7) 3 (by decide)
  unfold wpL_lawOf
  refine ⟨by decide, by decide, 10, 900, by decide, by decide, ?_⟩
  unfold wpX_init
  refine ⟨by decide, by decide, by decide, by decide, by decide, by decide, by decide, by decide, by decide, by decide, by decide, by decide, by decide, by decide, by decide, by decide, by decide, by decide, by decide, by decide, ?_⟩
  refine nm_r (e' := nI (1 + 2 * s)) ?_ ⟨by decide, nm_r (e' := nI (v % 3)) ?_ (nm_r (e' := nI a) ea (nm_r (e' := nI b) eb ⟨9, ?_⟩))⟩
  · rw [es, show (2 : Int32) = nI 2 from rfl, pk_mul, show (1 : Int32) = nI 1 from rfl, nI_add]
  · rw [ev]
    exact pk_rem (d := 3) hv (by decide) (by decide)
  · refine qf_42 (l := v % 3) (s := s) (a := a) (b := b) (Nat.mod_lt _ (by decide)) (by omega) (by omega) (by omega) hp 8 0 _ _ _ _ _ _ _ _ _ _ _ _ _ _ _ _ (by omega) ⟨rfl, rfl, rfl, rfl, ?_, fun i hi => absurd hi (by omega), fun i hi => absurd hi (by omega)⟩
    intro n hn
    have e : nI (qa_f 0 n) = 0 := by rw [qa_f0]; rfl
    exact ⟨e.symm, e.symm⟩
theorem i_vc (xs : Nat → Int32) (L : Nat) (hL : L ≤ 3) : wpL_law (fun r => r = 1) L xs := by
  unfold wpL_law
  exact qg_cell hL 0 (by decide) (fun r1 => qg_cell hL 1 (by decide) (fun r2 => qg_cell hL 2 (by decide) (fun r3 => ⟨480, 7680, by decide, by decide, qg_lawOf (post := fun r _ => r = 1) r1 r2 r3 rfl⟩)))
end
