section
/-! the pure picture: a list of formulas (kind, left, right), sets as naturals, the saturated sets as a list -/
noncomputable def cd_all (n : Nat) (f : Nat → Bool) : Bool := Nat.rec (motive := fun _ => Bool) true (fun k ih => and ih (f k)) n
theorem cd_all_0 (f : Nat → Bool) : cd_all 0 f = true := rfl
theorem cd_all_s (n : Nat) (f : Nat → Bool) : cd_all (n + 1) f = and (cd_all n f) (f n) := rfl
theorem cd_all_f {n i : Nat} {f : Nat → Bool} (h : cd_all i f = false) (hi : i ≤ n) : cd_all n f = false := by
  induction n with
  | zero =>
    have e : i = 0 := by omega
    rw [e] at h
    exact h
  | succ n ih =>
    by_cases e : i = n + 1
    · rw [← e]
      exact h
    · rw [cd_all_s, ih (by omega)]
      rfl
theorem cd_all_t {n : Nat} {f : Nat → Bool} (h : cd_all n f = true) : ∀ i, i < n → f i = true := by
  intro i hi
  cases e : f i with
  | true => rfl
  | false =>
    have e2 : cd_all (i + 1) f = false := by
      rw [cd_all_s, e]
      cases cd_all i f <;> rfl
    rw [cd_all_f e2 (by omega)] at h
    exact absurd h (by decide)
noncomputable def cd_any (n : Nat) (f : Nat → Bool) : Bool := Nat.rec (motive := fun _ => Bool) false (fun k ih => or ih (f k)) n
theorem cd_any_s (n : Nat) (f : Nat → Bool) : cd_any (n + 1) f = or (cd_any n f) (f n) := rfl
theorem cd_any_t {n i : Nat} {f : Nat → Bool} (h : f i = true) (hi : i < n) : cd_any n f = true := by
  induction n with
  | zero => exact absurd hi (by omega)
  | succ n ih =>
    rw [cd_any_s]
    by_cases e : i = n
    · rw [← e, h]
      cases cd_any i f <;> rfl
    · rw [ih (by omega)]
      rfl
theorem cd_beq_f {a b : Nat} (h : a ≠ b) : Nat.beq a b = false := by
  cases e : Nat.beq a b with
  | false => rfl
  | true => exact absurd (Nat.eq_of_beq_eq_true e) h
theorem cd_ble_f {a b : Nat} (h : b < a) : Nat.ble a b = false := by
  cases e : Nat.ble a b with
  | false => rfl
  | true => exact absurd (Nat.le_of_ble_eq_true e) (by omega)
/-! bits -/
def cd_t (s i : Nat) : Bool := Nat.beq (Nat.mod (Nat.div s (Nat.pow 2 i)) 2) 1
def cd_mi (s w : Nat) : Nat := Nat.xor s (Nat.land s w)
def cd_sub (s w : Nat) : Bool := Nat.beq (cd_mi s w) 0
def cd_b (b : Bool) : Int32 := cond b 1 0
def cd_eqb (a b : Bool) : Bool := cond a b (not b)
theorem cd_b_nar (b : Bool) : narrow .boolean (.int (cd_b b)) = .int (cd_b b) := by
  cases b <;> rfl
theorem cd_b_0 {b : Bool} {A B : Prop} (f : b = false → A) (g : b = true → B) : (cd_b b = 0 → A) ∧ (¬ cd_b b = 0 → B) := by
  cases b with
  | false => exact br_t rfl (f rfl)
  | true => exact br_f (by decide) (g rfl)
theorem cd_b_1 {b : Bool} {A B : Prop} (f : b = true → A) (g : b = false → B) : (cd_b b = 1 → A) ∧ (¬ cd_b b = 1 → B) := by
  cases b with
  | false => exact br_f (by decide) (g rfl)
  | true => exact br_t rfl (f rfl)
theorem cd_s_l : ∀ n, n < 32 → ((nI n &&& 31).toBitVec.smod 32).toNat = n := by decide +kernel
theorem cd_bitN {s i : Nat} (hs : s < 2 ^ 31) (hi : i < 32) : (nI s >>> (nI i &&& 31)) &&& 1 = nI (s / 2 ^ i % 2) := by
  rw [pk_shrN hs (nI i &&& 31) i (cd_s_l i hi)]
  have h : s / 2 ^ i < 2 ^ 32 := Nat.lt_of_le_of_lt (Nat.div_le_self _ _) (by omega)
  exact pk_andN h (m := 1) 1 (by decide)
theorem cd_t_1 {s i : Nat} (h : cd_t s i = true) : s / 2 ^ i % 2 = 1 := Nat.eq_of_beq_eq_true h
theorem cd_t_0 {s i : Nat} (h : cd_t s i = false) : s / 2 ^ i % 2 = 0 := by
  have h2 : ¬ s / 2 ^ i % 2 = 1 := Nat.ne_of_beq_eq_false h
  omega
theorem cd_bit {s i : Nat} (hs : s < 2 ^ 31) (hi : i < 32) : (nI s >>> (nI i &&& 31)) &&& 1 = cd_b (cd_t s i) := by
  rw [cd_bitN hs hi]
  cases h : cd_t s i with
  | true => rw [cd_t_1 h]; rfl
  | false => rw [cd_t_0 h]; rfl
theorem cd_in {post : Int32 → Prop} {u : St2} {p0 p1 : Int32} (s i : Nat) (e0 : p0 = nI s) (e1 : p1 = nI i) (hs : s < 2 ^ 31) (hi : i < 32) (h : post (cd_b (cd_t s i))) : wpX_in post u p0 p1 := by
  obtain ⟨c, k, f, hu, a1, a2, a3, a4, a5⟩ := u
  subst e0 e1
  show ((nI s >>> (nI i &&& 31)) &&& 1 = 1 → post 1) ∧ (¬ (nI s >>> (nI i &&& 31)) &&& 1 = 1 → post 0)
  rw [cd_bit hs hi]
  exact cd_b_1 (fun e => by rw [e] at h; exact h) (fun e => by rw [e] at h; exact h)
/-! and, xor, or: turned from the kit's BITS family -/
theorem cd_and (a b : Nat) : nI a &&& nI b = nI (Nat.land a b) := by
  apply Int32.toBitVec_inj.1
  show BitVec.ofNat 32 a &&& BitVec.ofNat 32 b = BitVec.ofNat 32 (a &&& b)
  apply BitVec.eq_of_getLsbD_eq
  intro i hi
  simp [hi]
theorem cd_or (a b : Nat) : nI a ||| nI b = nI (Nat.lor a b) := by
  apply Int32.toBitVec_inj.1
  show BitVec.ofNat 32 a ||| BitVec.ofNat 32 b = BitVec.ofNat 32 (a ||| b)
  apply BitVec.eq_of_getLsbD_eq
  intro i hi
  simp [hi]
theorem cd_minus (s w : Nat) : nI s &&& (nI w ^^^ (-1)) = nI (cd_mi s w) := by
  apply Int32.toBitVec_inj.1
  show BitVec.ofNat 32 s &&& (BitVec.ofNat 32 w ^^^ (-1 : Int32).toBitVec) = BitVec.ofNat 32 (s ^^^ (s &&& w))
  have e : BitVec.ofNat 32 (s ^^^ (s &&& w)) = BitVec.ofNat 32 s ^^^ (BitVec.ofNat 32 s &&& BitVec.ofNat 32 w) := by
    apply BitVec.eq_of_getLsbD_eq
    intro i hi
    simp [hi]
  rw [e, show (-1 : Int32).toBitVec = BitVec.allOnes 32 by decide]
  apply BitVec.eq_of_getLsbD_eq
  intro i hi
  rw [BitVec.getLsbD_and, BitVec.getLsbD_xor, BitVec.getLsbD_xor, BitVec.getLsbD_and, BitVec.getLsbD_allOnes, decide_eq_true hi]
  cases (BitVec.ofNat 32 s).getLsbD i <;> cases (BitVec.ofNat 32 w).getLsbD i <;> rfl
theorem cd_mi_lt {s w : Nat} (h : s < 2048) : cd_mi s w < 2048 := by
  have h2 : s &&& w < 2 ^ 11 := Nat.lt_of_le_of_lt Nat.and_le_left h
  have h3 : s ^^^ (s &&& w) < 2 ^ 11 := Nat.xor_lt_two_pow h h2
  exact h3
theorem cd_mi0 {s w : Nat} {A B : Prop} (h : s < 2048) (f : cd_sub s w = true → A) (g : cd_sub s w = false → B) : (nI s &&& (nI w ^^^ (-1)) = 0 → A) ∧ (¬ nI s &&& (nI w ^^^ (-1)) = 0 → B) := by
  rw [cd_minus]
  have hl := cd_mi_lt (w := w) h
  refine pk_eq (cd_mi s w) 0 (fun e => f ?_) (fun e => g ?_)
  · unfold cd_sub
    rw [e]
    rfl
  · exact cd_beq_f e
theorem cd_land_lt {a b : Nat} (h : a < 2048) : Nat.land a b < 2048 := Nat.lt_of_le_of_lt (Nat.and_le_left (n := a) (m := b)) h
theorem cd_land_lt2 {a b : Nat} (h : b < 2048) : Nat.land a b < 2048 := Nat.lt_of_le_of_lt (Nat.and_le_right (n := a) (m := b)) h
theorem cd_sh : ∀ n, n < 12 → (1 : Int32) <<< (nI n &&& 31) = nI (2 ^ n) := by decide +kernel
theorem cd_ev : ∀ n, n < 12 → ((1 : Int32) <<< (nI n &&& 31)) - 1 = nI (2 ^ n - 1) := by decide +kernel
theorem cd_evlt : ∀ n, n < 12 → 2 ^ n - 1 < 2048 ∧ 2 ^ n ≤ 2048 ∧ 0 < 2 ^ n := by decide +kernel
theorem cd_i8 : ∀ n, n < 16 → (nI n).toInt8.toInt32 = nI n := by decide +kernel
theorem cd_i16 : ∀ n, n < 2048 → (nI n).toInt16.toInt32 = nI n := by decide +kernel
/-! formulas -/
def cd_K (F : List (Nat × Nat × Nat)) (i : Nat) : Nat := (F.getD i (3, 0, 0)).1
def cd_L (F : List (Nat × Nat × Nat)) (i : Nat) : Nat := (F.getD i (3, 0, 0)).2.1
def cd_R (F : List (Nat × Nat × Nat)) (i : Nat) : Nat := (F.getD i (3, 0, 0)).2.2
def cd_kok (k : Nat) (h a b : Bool) : Bool := cond (Nat.beq k 0) (cd_eqb h (and a b)) (cond (Nat.beq k 1) (cd_eqb h (or a b)) (cond (Nat.beq k 2) (cond h (or (not a) b) (not b)) (cond (Nat.beq k 4) (not h) true)))
def cd_kf (F : List (Nat × Nat × Nat)) (s : Nat) (i : Nat) : Bool := cd_kok (cd_K F i) (cd_t s i) (cd_t s (cd_L F i)) (cd_t s (cd_R F i))
noncomputable def cd_keeps (F : List (Nat × Nat × Nat)) (s : Nat) : Bool := cd_all F.length (cd_kf F s)
def cd_sep (w a b : Nat) : Bool := and (cd_t w a) (not (cd_t w b))
def cd_pf (ws : List Nat) (s a b : Nat) (j : Nat) : Bool := and (cd_sub s (ws.getD j 0)) (cd_sep (ws.getD j 0) a b)
noncomputable def cd_parts (ws : List Nat) (s a b : Nat) : Bool := or (cd_sep s a b) (cd_any ws.length (cd_pf ws s a b))
noncomputable def cd_wf (F : List (Nat × Nat × Nat)) (ws : List Nat) (s : Nat) (i : Nat) : Bool := cond (and (Nat.beq (cd_K F i) 2) (not (cd_t s i))) (cd_parts ws s (cd_L F i) (cd_R F i)) true
noncomputable def cd_isW (F : List (Nat × Nat × Nat)) (ws : List Nat) (s : Nat) : Bool := and (cd_keeps F s) (cd_all F.length (cd_wf F ws s))
noncomputable def cd_fr (F : List (Nat × Nat × Nat)) (k : Nat) (ws : List Nat) : List Nat := Nat.rec (motive := fun _ => List Nat → List Nat) (fun ws => ws) (fun k ih ws => cond (cd_isW F ws k) (ih (ws ++ [k])) (ih ws)) k ws
theorem cd_fr_s (F : List (Nat × Nat × Nat)) (k : Nat) (ws : List Nat) : cd_fr F (k + 1) ws = cond (cd_isW F ws k) (cd_fr F k (ws ++ [k])) (cd_fr F k ws) := rfl
noncomputable def cd_find (F : List (Nat × Nat × Nat)) : List Nat := cd_fr F (2 ^ F.length) []
noncomputable def cd_clI (n : Nat) (ws : List Nat) (s : Nat) (i : Nat) : Nat := Nat.rec (motive := fun _ => Nat) (2 ^ n - 1) (fun j acc => cond (cd_sub s (ws.getD j 0)) (Nat.land acc (ws.getD j 0)) acc) i
theorem cd_clI_s (n : Nat) (ws : List Nat) (s : Nat) (i : Nat) : cd_clI n ws s (i + 1) = cond (cd_sub s (ws.getD i 0)) (Nat.land (cd_clI n ws s i) (ws.getD i 0)) (cd_clI n ws s i) := rfl
theorem cd_clI_lt {n : Nat} (hn : n < 12) (ws : List Nat) (s : Nat) (i : Nat) : cd_clI n ws s i < 2048 := by
  induction i with
  | zero => exact (cd_evlt n hn).1
  | succ i ih =>
    rw [cd_clI_s]
    cases cd_sub s (ws.getD i 0) with
    | true => exact cd_land_lt ih
    | false => exact ih
noncomputable def cd_fo (n : Nat) (ws : List Nat) (s c : Nat) : Bool := cd_t (cd_clI n ws (Nat.land s (2 ^ n - 1)) ws.length) c
/-! truth -/
def cd_tg (k : Nat) (h a b : Bool) : Bool := cond (Nat.beq k 3) h (cond (Nat.beq k 0) (and a b) (cond (Nat.beq k 1) (or a b) (cond (Nat.beq k 2) (or (not a) b) false)))
noncomputable def cd_tf (F : List (Nat × Nat × Nat)) (ch : Nat) (i : Nat) : Nat := Nat.rec (motive := fun _ => Nat) 0 (fun i acc => cond (cd_tg (cd_K F i) (cd_t ch (cd_L F i)) (cd_t acc (cd_L F i)) (cd_t acc (cd_R F i))) (Nat.lor acc (Nat.pow 2 i)) acc) i
theorem cd_tf_s (F : List (Nat × Nat × Nat)) (ch : Nat) (i : Nat) : cd_tf F ch (i + 1) = cond (cd_tg (cd_K F i) (cd_t ch (cd_L F i)) (cd_t (cd_tf F ch i) (cd_L F i)) (cd_t (cd_tf F ch i) (cd_R F i))) (Nat.lor (cd_tf F ch i) (2 ^ i)) (cd_tf F ch i) := rfl
theorem cd_tf_lt (F : List (Nat × Nat × Nat)) (ch : Nat) (i : Nat) : cd_tf F ch i < 2 ^ i := by
  induction i with
  | zero => exact Nat.one_pos
  | succ i ih =>
    have h1 : cd_tf F ch i < 2 ^ (i + 1) := Nat.lt_of_lt_of_le ih (Nat.pow_le_pow_right (by omega) (by omega))
    rw [cd_tf_s]
    cases cd_tg (cd_K F i) (cd_t ch (cd_L F i)) (cd_t (cd_tf F ch i) (cd_L F i)) (cd_t (cd_tf F ch i) (cd_R F i)) with
    | true => exact Nat.or_lt_two_pow h1 (Nat.pow_lt_pow_right (by omega) (by omega))
    | false => exact h1
theorem cd_tf_lt2 (F : List (Nat × Nat × Nat)) (ch : Nat) {i : Nat} (hi : i < 12) : cd_tf F ch i < 2048 :=
  Nat.lt_of_lt_of_le (cd_tf_lt F ch i) (cd_evlt i hi).2.1
noncomputable def cd_cf (F : List (Nat × Nat × Nat)) (s c : Nat) (ch : Nat) : Bool := or (not (cd_sub s (cd_tf F ch F.length))) (cd_t (cd_tf F ch F.length) c)
noncomputable def cd_ca (F : List (Nat × Nat × Nat)) (s c : Nat) : Bool := cd_all 16 (cd_cf F (Nat.land s (2 ^ F.length - 1)) c)
/-! alike, enough, against -/
def cd_af (ws : List Nat) (i j : Nat) (w : Nat) : Bool := cd_eqb (cd_t (ws.getD w 0) i) (cd_t (ws.getD w 0) j)
noncomputable def cd_al (ws : List Nat) (i j : Nat) : Bool := cd_all ws.length (cd_af ws i j)
noncomputable def cd_hs (ws : List Nat) (s c : Nat) (i : Nat) : List Nat := Nat.rec (motive := fun _ => List Nat) [] (fun j acc => cond (cd_t (ws.getD j 0) c) acc (acc ++ [cd_mi s (ws.getD j 0)])) i
theorem cd_hs_s (ws : List Nat) (s c : Nat) (i : Nat) : cd_hs ws s c (i + 1) = cond (cd_t (ws.getD i 0) c) (cd_hs ws s c i) (cd_hs ws s c i ++ [cd_mi s (ws.getD i 0)]) := rfl
noncomputable def cd_can (ws : List Nat) (s c : Nat) (i : Nat) : Bool := Nat.rec (motive := fun _ => Bool) true (fun j acc => cond (cd_t (ws.getD j 0) c) acc (and acc (not (Nat.beq (cd_mi s (ws.getD j 0)) 0)))) i
theorem cd_can_s (ws : List Nat) (s c : Nat) (i : Nat) : cd_can ws s c (i + 1) = cond (cd_t (ws.getD i 0) c) (cd_can ws s c i) (and (cd_can ws s c i) (not (Nat.beq (cd_mi s (ws.getD i 0)) 0))) := rfl
def cd_mf (hs : List Nat) (part : Nat) (h : Nat) : Bool := not (Nat.beq (Nat.land (hs.getD h 0) part) 0)
noncomputable def cd_me (hs : List Nat) (part : Nat) : Bool := cd_all hs.length (cd_mf hs part)
noncomputable def cd_sz (s : Nat) (n : Nat) : Nat := Nat.rec (motive := fun _ => Nat) 0 (fun i acc => acc + s / 2 ^ i % 2) n
theorem cd_sz_s (s n : Nat) : cd_sz s (n + 1) = cd_sz s n + s / 2 ^ n % 2 := rfl
theorem cd_sz_le (s n : Nat) : cd_sz s n ≤ n := by
  induction n with
  | zero => exact Nat.le_refl 0
  | succ n ih =>
    rw [cd_sz_s]
    omega
noncomputable def cd_en (n : Nat) (hs : List Nat) (a : Nat) (k : Nat) (part best : Nat) : Nat := Nat.rec (motive := fun _ => Nat → Nat → Nat) (fun _ best => best) (fun _ ih part best => cond (Nat.beq part 0) best (ih (Nat.land (part - 1) a) (cond (Nat.ble best (cd_sz part n)) best (cond (cd_me hs part) (cd_sz part n) best)))) k part best
theorem cd_en_s (n : Nat) (hs : List Nat) (a : Nat) (k : Nat) (part best : Nat) : cd_en n hs a (k + 1) part best = cond (Nat.beq part 0) best (cd_en n hs a k (Nat.land (part - 1) a) (cond (Nat.ble best (cd_sz part n)) best (cond (cd_me hs part) (cd_sz part n) best))) := rfl
noncomputable def cd_enr (n : Nat) (hs : List Nat) (a : Nat) : Nat := cond (Nat.beq hs.length 0) 0 (cd_en n hs a a a (cd_sz a n))
noncomputable def cd_ag (ws : List Nat) (s c : Nat) (i : Nat) : Int32 := Nat.rec (motive := fun _ => Int32) (-4) (fun j acc => cond (and (cd_sub s (ws.getD j 0)) (not (cd_t (ws.getD j 0) c))) (nI (ws.getD j 0)) acc) i
theorem cd_ag_s (ws : List Nat) (s c : Nat) (i : Nat) : cd_ag ws s c (i + 1) = cond (and (cd_sub s (ws.getD i 0)) (not (cd_t (ws.getD i 0) c))) (nI (ws.getD i 0)) (cd_ag ws s c i) := rfl
/-! the state against the picture -/
def cd_ok (F : List (Nat × Nat × Nat)) (ct : Int32) (a1 a2 a3 : Nat → Int32) : Prop := F.length ≤ 11 ∧ ct = nI F.length ∧ ∀ i, i < F.length → (cd_K F i < 5 ∧ cd_L F i < 11 ∧ cd_R F i < 11 ∧ a1 i = nI (cd_K F i) ∧ a2 i = nI (cd_L F i) ∧ a3 i = nI (cd_R F i))
def cd_W (ws : List Nat) (fd : Int32) (a4 : Nat → Int32) : Prop := ws.length ≤ 2048 ∧ fd = nI ws.length ∧ ∀ j, j < ws.length → (ws.getD j 0 < 2048 ∧ a4 j = nI (ws.getD j 0))
def cd_Hu (hs : List Nat) (hu : Int32) (a5 : Nat → Int32) : Prop := hs.length ≤ 2048 ∧ hu = nI hs.length ∧ ∀ j, j < hs.length → (hs.getD j 0 < 2048 ∧ a5 j = nI (hs.getD j 0))
def cd_I (F : List (Nat × Nat × Nat)) (ws : List Nat) (u : St2) : Prop := match u with
  | (ct, kn, fd, _, a1, a2, a3, a4, _) => cd_ok F ct a1 a2 a3 ∧ (kn = 0 ∨ (¬ kn = 0 ∧ cd_W ws fd a4))
theorem cd_getD_a {α : Type} (l : List α) (x d : α) {j : Nat} (h : j < l.length) : (l ++ [x]).getD j d = l.getD j d := by
  rw [List.getD_eq_getElem?_getD, List.getD_eq_getElem?_getD, List.getElem?_append_left h]
theorem cd_getD_n {α : Type} (l : List α) (x d : α) : (l ++ [x]).getD l.length d = x := by
  rw [List.getD_eq_getElem?_getD, List.getElem?_append_right (Nat.le_refl _), Nat.sub_self]
  rfl
theorem cd_len1 {α : Type} (l : List α) (x : α) : (l ++ [x]).length = l.length + 1 := by
  rw [List.length_append]
  rfl
/-- appending a place to a stored list -/
theorem cd_app {l : List Nat} {x : Nat} {a : Nat → Int32} {k : Nat} {v : Int32} (hk : k = l.length) (hx : x < 2048) (hv : v = nI x) (h : ∀ j, j < l.length → (l.getD j 0 < 2048 ∧ a j = nI (l.getD j 0))) : ∀ j, j < (l ++ [x]).length → ((l ++ [x]).getD j 0 < 2048 ∧ upd a k v j = nI ((l ++ [x]).getD j 0)) := by
  intro j hj
  rw [cd_len1] at hj
  by_cases e : j = l.length
  · rw [e, cd_getD_n, ← hk, pk_us]
    exact ⟨hx, hv⟩
  · rw [cd_getD_a l x 0 (by omega), pk_un (by omega)]
    exact h j (by omega)
end
section
/-! put, atom, falsum, join, not -/
def cd_same (F : List (Nat × Nat × Nat)) (w a b i : Nat) : Bool := and (Nat.beq (cd_K F i) w) (and (Nat.beq (cd_L F i) a) (Nat.beq (cd_R F i) b))
/-- place d holds the triple, no earlier place does -/
noncomputable def cd_at (F : List (Nat × Nat × Nat)) (w a b d : Nat) : Bool := cd_all d (fun i => not (cd_same F w a b i))
theorem cd_same_f {F : List (Nat × Nat × Nat)} {w a b i : Nat} (h : not (cd_same F w a b i) = true) : ¬ (cd_K F i = w ∧ cd_L F i = a ∧ cd_R F i = b) := by
  rintro ⟨rfl, rfl, rfl⟩
  unfold cd_same at h
  rw [Nat.beq_refl, Nat.beq_refl, Nat.beq_refl] at h
  exact absurd h (by decide)
theorem cd_same_t {F : List (Nat × Nat × Nat)} {w a b i : Nat} (h : cd_same F w a b i = true) : cd_K F i = w ∧ cd_L F i = a ∧ cd_R F i = b := by
  unfold cd_same at h
  rw [Bool.and_eq_true, Bool.and_eq_true] at h
  exact ⟨Nat.eq_of_beq_eq_true h.1, Nat.eq_of_beq_eq_true h.2.1, Nat.eq_of_beq_eq_true h.2.2⟩
theorem cd_put_loop {post : Int32 → St2 → Prop} {F : List (Nat × Nat × Nat)} {ct kn fd hu : Int32} {a1 a2 a3 a4 a5 : Nat → Int32} {w a b d : Nat} (ok : cd_ok F ct a1 a2 a3) (hw : w < 5) (ha : a < 11) (hb : b < 11) (hd : d ≤ F.length) (hat : cd_at F w a b d = true)
    (H : ∀ n, wX_put_3 post (nI w) (nI a) (nI b) (nI F.length) kn fd hu a1 a2 a3 a4 a5 (n + 1) (nI d)) :
    wpX_put post (ct, kn, fd, hu, a1, a2, a3, a4, a5) (nI w) (nI a) (nI b) := by
  obtain ⟨hn, rfl, hF⟩ := ok
  refine pk_loop (σ := Unit) (fun n i _ => wX_put_3 post (nI w) (nI a) (nI b) (nI F.length) kn fd hu a1 a2 a3 a4 a5 n (nI i)) (fun _ _ => True) d 0 () (by omega) trivial (fun n _ _ => H n) ?_
  intro n i _ hi _ hk
  obtain ⟨h1, h2, h3, e1, e2, e3⟩ := hF i (by omega)
  have hs := cd_same_f (cd_all_t hat i hi)
  have cl : (nI i).toNatClampNeg = i := nI_clamp (by omega)
  have go : wX_put_3 post (nI w) (nI a) (nI b) (nI F.length) kn fd hu a1 a2 a3 a4 a5 n (nI (i + 1)) := hk () trivial
  refine pk_le F.length i (fun z => absurd z (by omega)) (fun _ => ⟨pk_in i 11 (by omega), ?_⟩)
  rw [cl, e1, e2, e3]
  exact pk_eq (cd_K F i) w (fun g1 => ⟨pk_in i 11 (by omega), pk_eq (cd_L F i) a (fun g2 => ⟨pk_in i 11 (by omega), pk_eq (cd_R F i) b (fun g3 => absurd ⟨g1, g2, g3⟩ hs) (fun _ => nm_r (nI_1 i) go)⟩) (fun _ => nm_r (nI_1 i) go)⟩) (fun _ => nm_r (nI_1 i) go)
theorem cd_put_old {post : Int32 → St2 → Prop} {F : List (Nat × Nat × Nat)} {ct kn fd hu : Int32} {a1 a2 a3 a4 a5 : Nat → Int32} {w a b d : Nat} (ok : cd_ok F ct a1 a2 a3) (hw : w < 5) (ha : a < 11) (hb : b < 11) (hd : d < F.length) (hat : cd_at F w a b d = true) (hsm : cd_same F w a b d = true)
    (hp : post (nI d) (ct, kn, fd, hu, a1, a2, a3, a4, a5)) :
    wpX_put post (ct, kn, fd, hu, a1, a2, a3, a4, a5) (nI w) (nI a) (nI b) := by
  refine cd_put_loop ok hw ha hb (by omega) hat (fun n => ?_)
  obtain ⟨hn, rfl, hF⟩ := ok
  obtain ⟨h1, h2, h3, e1, e2, e3⟩ := hF d hd
  obtain ⟨g1, g2, g3⟩ := cd_same_t hsm
  have cl : (nI d).toNatClampNeg = d := nI_clamp (by omega)
  refine pk_le F.length d (fun z => absurd z (by omega)) (fun _ => ⟨pk_in d 11 (by omega), ?_⟩)
  rw [cl, e1, e2, e3, g1, g2, g3]
  exact br_t rfl ⟨pk_in d 11 (by omega), br_t rfl ⟨pk_in d 11 (by omega), br_t rfl hp⟩⟩
theorem cd_put_full {post : Int32 → St2 → Prop} {F : List (Nat × Nat × Nat)} {ct kn fd hu : Int32} {a1 a2 a3 a4 a5 : Nat → Int32} {w a b : Nat} (ok : cd_ok F ct a1 a2 a3) (hw : w < 5) (ha : a < 11) (hb : b < 11) (hl : F.length = 11) (hat : cd_at F w a b F.length = true)
    (hp : post (-2) (ct, kn, fd, hu, a1, a2, a3, a4, a5)) :
    wpX_put post (ct, kn, fd, hu, a1, a2, a3, a4, a5) (nI w) (nI a) (nI b) := by
  refine cd_put_loop ok hw ha hb (Nat.le_refl _) hat (fun n => ?_)
  obtain ⟨hn, rfl, hF⟩ := ok
  exact pk_le F.length F.length (fun _ => br_t (by rw [hl]; rfl) hp) (fun z => absurd z (by omega))
theorem cd_ok_app {F : List (Nat × Nat × Nat)} {ct : Int32} {a1 a2 a3 : Nat → Int32} {w a b k : Nat} {v1 v2 v3 : Int32} (ok : cd_ok F ct a1 a2 a3) (hw : w < 5) (ha : a < 11) (hb : b < 11) (hl : F.length < 11) (hk : k = F.length) (e1 : v1 = nI w) (e2 : v2 = nI a) (e3 : v3 = nI b) : cd_ok (F ++ [(w, a, b)]) (nI (F.length + 1)) (upd a1 k v1) (upd a2 k v2) (upd a3 k v3) := by
  obtain ⟨hn, rfl, hF⟩ := ok
  refine ⟨by rw [cd_len1]; omega, by rw [cd_len1], fun i hi => ?_⟩
  rw [cd_len1] at hi
  unfold cd_K cd_L cd_R
  by_cases e : i = F.length
  · rw [e, cd_getD_n, ← hk, pk_us, pk_us, pk_us]
    exact ⟨hw, ha, hb, e1, e2, e3⟩
  · rw [cd_getD_a F _ _ (by omega), pk_un (by omega), pk_un (by omega), pk_un (by omega)]
    exact hF i (by omega)
theorem cd_put_new {post : Int32 → St2 → Prop} {F : List (Nat × Nat × Nat)} {ct kn fd hu : Int32} {a1 a2 a3 a4 a5 : Nat → Int32} {w a b : Nat} (ok : cd_ok F ct a1 a2 a3) (hw : w < 5) (ha : a < 11) (hb : b < 11) (hl : F.length < 11) (hat : cd_at F w a b F.length = true)
    (hp : ∀ c b1 b2 b3, cd_ok (F ++ [(w, a, b)]) c b1 b2 b3 → post (nI F.length) (c, 0, fd, hu, b1, b2, b3, a4, a5)) :
    wpX_put post (ct, kn, fd, hu, a1, a2, a3, a4, a5) (nI w) (nI a) (nI b) := by
  refine cd_put_loop ok hw ha hb (Nat.le_refl _) hat (fun n => ?_)
  have ok' := ok
  obtain ⟨hn, rfl, hF⟩ := ok
  refine pk_le F.length F.length (fun _ => pk_eq F.length 11 (fun z => absurd z (by omega)) (fun _ => ⟨pk_in F.length 11 hl, nm_e ⟨pk_in F.length 11 hl, nm_e ⟨pk_in F.length 11 hl, nm_e (nm_r (nI_1 _) ?_)⟩⟩⟩)) (fun z => absurd z (by omega))
  rw [nI_pred]
  exact hp _ _ _ _ (cd_ok_app ok' hw ha hb hl (nI_clamp (by omega)) (cd_i8 w (by omega)) (cd_i8 a (by omega)) (cd_i8 b (by omega)))
theorem cd_missing {post : Int32 → Prop} {F : List (Nat × Nat × Nat)} {ct kn fd hu : Int32} {a1 a2 a3 a4 a5 : Nat → Int32} {i : Nat} (ok : cd_ok F ct a1 a2 a3) (hi : i < F.length) (hp : post 0) : wpX_missing post (ct, kn, fd, hu, a1, a2, a3, a4, a5) (nI i) := by
  obtain ⟨hn, rfl, hF⟩ := ok
  exact br_f (nI_pos (by omega)) (pk_lt i F.length (fun _ => hp) (fun z => absurd z (by omega)))
/-- the state ahead of the first question: nothing is known -/
def cd_J (F : List (Nat × Nat × Nat)) (u : St2) : Prop := match u with
  | (ct, kn, _, _, a1, a2, a3, _, _) => cd_ok F ct a1 a2 a3 ∧ kn = 0
theorem cd_JI {F : List (Nat × Nat × Nat)} {u : St2} (h : cd_J F u) (ws : List Nat) : cd_I F ws u := by
  obtain ⟨c, k, f, hu, a1, a2, a3, a4, a5⟩ := u
  exact ⟨h.1, Or.inl h.2⟩
theorem cd_atom_new {post : Int32 → St2 → Prop} {F : List (Nat × Nat × Nat)} {u : St2} {a : Nat} {x : Int32} (h : cd_J F u) (e : x = nI a) (ha : a < 4) (hl : F.length < 11) (hat : cd_at F 3 a 0 F.length = true) (hp : ∀ u', cd_J (F ++ [(3, a, 0)]) u' → post (nI F.length) u') : wpX_atom post u x := by
  obtain ⟨c, k, f, hu, a1, a2, a3, a4, a5⟩ := u
  subst e
  exact br_f (nI_pos (by omega)) (br_t (nI_lt (b := 4) ha (by decide)) (cd_put_new (w := 3) (b := 0) h.1 (by decide) (by omega) (by decide) hl hat (fun c b1 b2 b3 ok => hp (c, 0, f, hu, b1, b2, b3, a4, a5) ⟨ok, rfl⟩)))
theorem cd_falsum_new {post : Int32 → St2 → Prop} {F : List (Nat × Nat × Nat)} {u : St2} (h : cd_J F u) (hl : F.length < 11) (hat : cd_at F 4 0 0 F.length = true) (hp : ∀ u', cd_J (F ++ [(4, 0, 0)]) u' → post (nI F.length) u') : wpX_falsum post u := by
  obtain ⟨c, k, f, hu, a1, a2, a3, a4, a5⟩ := u
  exact cd_put_new (w := 4) (a := 0) (b := 0) h.1 (by decide) (by decide) (by decide) hl hat (fun c b1 b2 b3 ok => hp (c, 0, f, hu, b1, b2, b3, a4, a5) ⟨ok, rfl⟩)
theorem cd_join_new {post : Int32 → St2 → Prop} {F : List (Nat × Nat × Nat)} {u : St2} (w a b : Nat) {x y z : Int32} (h : cd_J F u) (e : x = nI w) (e1 : y = nI a) (e2 : z = nI b) (hw : w < 3) (ha : a < F.length) (hb : b < F.length) (hl : F.length < 11) (hat : cd_at F w a b F.length = true) (hp : ∀ u', cd_J (F ++ [(w, a, b)]) u' → post (nI F.length) u') : wpX_join post u x y z := by
  obtain ⟨c, k, f, hu, a1, a2, a3, a4, a5⟩ := u
  subst e e1 e2
  refine br_f (nI_pos (by omega)) (br_f (nI_nlt (a := 2) (by omega) (by omega)) (cd_missing h.1 ha (br_t rfl (cd_missing h.1 hb (br_t rfl ?_)))))
  exact cd_put_new h.1 (by omega) (by omega) (by omega) hl hat (fun c b1 b2 b3 ok => hp (c, 0, f, hu, b1, b2, b3, a4, a5) ⟨ok, rfl⟩)
theorem cd_not_new {post : Int32 → St2 → Prop} {F : List (Nat × Nat × Nat)} {u : St2} (a : Nat) {y : Int32} (h : cd_J F u) (e1 : y = nI a) (ha : a < F.length) (h2 : 2 < F.length) (hl : F.length < 11) (hat : cd_at F 2 a 2 F.length = true) (hp : ∀ u', cd_J (F ++ [(2, a, 2)]) u' → post (nI F.length) u') : wpL_not post u y := by
  obtain ⟨c, k, f, hu, a1, a2, a3, a4, a5⟩ := u
  exact cd_join_new 2 a 2 h rfl e1 rfl (by decide) ha h2 hl hat (fun u' h' => hp u' h')
theorem cd_atom_old {post : Int32 → St2 → Prop} {F : List (Nat × Nat × Nat)} {ct kn fd hu : Int32} {a1 a2 a3 a4 a5 : Nat → Int32} {a d : Nat} {x : Int32} (ok : cd_ok F ct a1 a2 a3) (e : x = nI a) (ha : a < 4) (hd : d < F.length) (hat : cd_at F 3 a 0 d = true) (hsm : cd_same F 3 a 0 d = true) (hp : post (nI d) (ct, kn, fd, hu, a1, a2, a3, a4, a5)) : wpX_atom post (ct, kn, fd, hu, a1, a2, a3, a4, a5) x := by
  subst e
  exact br_f (nI_pos (by omega)) (br_t (nI_lt (b := 4) ha (by decide)) (cd_put_old (w := 3) (b := 0) ok (by decide) (by omega) (by decide) hd hat hsm hp))
theorem cd_atom_full {post : Int32 → St2 → Prop} {F : List (Nat × Nat × Nat)} {ct kn fd hu : Int32} {a1 a2 a3 a4 a5 : Nat → Int32} {a : Nat} {x : Int32} (ok : cd_ok F ct a1 a2 a3) (e : x = nI a) (ha : a < 4) (hl : F.length = 11) (hat : cd_at F 3 a 0 F.length = true) (hp : post (-2) (ct, kn, fd, hu, a1, a2, a3, a4, a5)) : wpX_atom post (ct, kn, fd, hu, a1, a2, a3, a4, a5) x := by
  subst e
  exact br_f (nI_pos (by omega)) (br_t (nI_lt (b := 4) ha (by decide)) (cd_put_full (w := 3) (b := 0) ok (by decide) (by omega) (by decide) hl hat hp))
theorem cd_join_old {post : Int32 → St2 → Prop} {F : List (Nat × Nat × Nat)} {ct kn fd hu : Int32} {a1 a2 a3 a4 a5 : Nat → Int32} (w a b d : Nat) {x y z : Int32} (ok : cd_ok F ct a1 a2 a3) (e : x = nI w) (e1 : y = nI a) (e2 : z = nI b) (hw : w < 3) (ha : a < F.length) (hb : b < F.length) (hd : d < F.length) (hat : cd_at F w a b d = true) (hsm : cd_same F w a b d = true) (hp : post (nI d) (ct, kn, fd, hu, a1, a2, a3, a4, a5)) : wpX_join post (ct, kn, fd, hu, a1, a2, a3, a4, a5) x y z := by
  subst e e1 e2
  have hn := ok.1
  refine br_f (nI_pos (by omega)) (br_f (nI_nlt (a := 2) (by omega) (by omega)) (cd_missing ok ha (br_t rfl (cd_missing ok hb (br_t rfl ?_)))))
  exact cd_put_old ok (by omega) (by omega) (by omega) hd hat hsm hp
theorem cd_join_full {post : Int32 → St2 → Prop} {F : List (Nat × Nat × Nat)} {ct kn fd hu : Int32} {a1 a2 a3 a4 a5 : Nat → Int32} (w a b : Nat) {x y z : Int32} (ok : cd_ok F ct a1 a2 a3) (e : x = nI w) (e1 : y = nI a) (e2 : z = nI b) (hw : w < 3) (ha : a < F.length) (hb : b < F.length) (hl : F.length = 11) (hat : cd_at F w a b F.length = true) (hp : post (-2) (ct, kn, fd, hu, a1, a2, a3, a4, a5)) : wpX_join post (ct, kn, fd, hu, a1, a2, a3, a4, a5) x y z := by
  subst e e1 e2
  refine br_f (nI_pos (by omega)) (br_f (nI_nlt (a := 2) (by omega) (by omega)) (cd_missing ok ha (br_t rfl (cd_missing ok hb (br_t rfl ?_)))))
  exact cd_put_full ok (by omega) (by omega) (by omega) hl hat hp
end
section
/-! keeps, parts, isWorld, find -/
theorem cd_w_keeps {post : Int32 → Prop} {F : List (Nat × Nat × Nat)} {ct kn fd hu : Int32} {a1 a2 a3 a4 a5 : Nat → Int32} {s : Nat} (ok : cd_ok F ct a1 a2 a3) (hs : s < 2 ^ 31) (hp : post (cd_b (cd_keeps F s))) : wpX_keeps post (ct, kn, fd, hu, a1, a2, a3, a4, a5) (nI s) := by
  obtain ⟨hn, rfl, hF⟩ := ok
  refine pk_loop (fun n i x => wX_keeps_4 post (nI s) (nI F.length) kn fd hu a1 a2 a3 a4 a5 n x (nI i)) (fun i x => x = cd_b (cd_all i (cd_kf F s))) F.length 0 1 (by omega) rfl ?_ ?_
  · intro n x h
    exact pk_le F.length F.length (fun _ => by rw [h]; exact ⟨cd_b_nar _, hp⟩) (fun z => absurd z (by omega))
  · intro n i x hi h hw
    obtain ⟨h1, h2, h3, e1, e2, e3⟩ := hF i hi
    have cl : (nI i).toNatClampNeg = i := nI_clamp (by omega)
    refine pk_le F.length i (fun z => absurd z (by omega)) (fun _ => ?_)
    cases hb : cd_all i (cd_kf F s) with
    | false =>
      have hx : x = cd_b (cd_keeps F s) := by
        rw [h, hb]
        unfold cd_keeps
        rw [cd_all_f hb (Nat.le_of_lt hi)]
      refine br_t (by rw [h, hb]; rfl) ?_
      rw [hx]
      exact ⟨cd_b_nar _, hp⟩
    | true =>
      have hx : x = 1 := by
        rw [h, hb]
        rfl
      have go : wX_keeps_4 post (nI s) (nI F.length) kn fd hu a1 a2 a3 a4 a5 n (cd_b (cd_kf F s i)) (nI (i + 1)) := hw _ (by rw [cd_all_s, hb]; rfl)
      clear hw h
      subst hx
      refine br_f (by decide) ?_
      refine cd_in s i rfl rfl hs (by omega) ⟨pk_in i 11 (by omega), cd_in s (cd_L F i) rfl (by rw [cl]; exact e2) hs (by omega) ⟨pk_in i 11 (by omega), cd_in s (cd_R F i) rfl (by rw [cl]; exact e3) hs (by omega) ⟨pk_in i 11 (by omega), ?_⟩⟩⟩
      rw [cl, e1]
      unfold cd_kf at go
      clear e1 e2 e3 h2 h3 hb hp hF cl
      revert go h1
      generalize cd_K F i = k
      generalize cd_t s i = b1
      generalize cd_t s (cd_L F i) = b2
      generalize cd_t s (cd_R F i) = b3
      intro hk go
      have hk5 : k = 0 ∨ k = 1 ∨ k = 2 ∨ k = 3 ∨ k = 4 := by omega
      have pin : vp_in (nI i) 11 := pk_in i 11 (by omega)
      rcases hk5 with rfl | rfl | rfl | rfl | rfl <;> cases b1 <;> cases b2 <;> cases b3 <;> repeat (first | exact go | exact nm_r (nI_1 i) go | refine ⟨pin, ?_⟩ | refine br_t (by decide) ?_ | refine br_f (by decide) ?_)
theorem cd_w_parts {post : Int32 → Prop} {ws : List Nat} {ct kn fd hu : Int32} {a1 a2 a3 a4 a5 : Nat → Int32} {s a b : Nat} {p0 p1 p2 : Int32} (hW : cd_W ws fd a4) (e0 : p0 = nI s) (e1 : p1 = nI a) (e2 : p2 = nI b) (hs : s < 2048) (ha : a < 11) (hb : b < 11) (hp : post (cd_b (cd_parts ws s a b))) : wpX_parts post (ct, kn, fd, hu, a1, a2, a3, a4, a5) p0 p1 p2 := by
  subst e0 e1 e2
  obtain ⟨hn, rfl, hF⟩ := hW
  have L : cd_sep s a b = false → ∃ fu, wX_parts_23 post (nI s) (nI a) (nI b) ct kn (nI ws.length) hu a1 a2 a3 a4 a5 fu 0 := by
    intro h0
    refine pk_loop (σ := Unit) (fun n i _ => wX_parts_23 post (nI s) (nI a) (nI b) ct kn (nI ws.length) hu a1 a2 a3 a4 a5 n (nI i)) (fun i _ => cd_any i (cd_pf ws s a b) = false) ws.length 0 () (by omega) rfl ?_ ?_
    · intro n _ h
      refine pk_le ws.length ws.length (fun _ => ?_) (fun z => absurd z (by omega))
      unfold cd_parts at hp
      rw [h0, h] at hp
      exact hp
    · intro n i _ hi h hw
      obtain ⟨h1, e1⟩ := hF i hi
      have cl : (nI i).toNatClampNeg = i := nI_clamp (by omega)
      have go : cd_pf ws s a b i = false → wX_parts_23 post (nI s) (nI a) (nI b) ct kn (nI ws.length) hu a1 a2 a3 a4 a5 n (nI (i + 1)) := fun e => hw () (by rw [cd_any_s, h, e]; rfl)
      refine pk_le ws.length i (fun z => absurd z (by omega)) (fun _ => ⟨pk_in i 2048 (by omega), nm_r (e' := nI (ws.getD i 0)) (by rw [cl]; exact e1) ?_⟩)
      refine cd_mi0 hs (fun g => ?_) (fun g => nm_r (nI_1 i) (go (by unfold cd_pf; rw [g]; rfl)))
      refine cd_in (ws.getD i 0) a rfl rfl (by omega) (by omega) (cd_b_0 (fun g2 => nm_r (nI_1 i) (go (by unfold cd_pf cd_sep; rw [g, g2]; rfl))) (fun g2 => ?_))
      refine cd_in (ws.getD i 0) b rfl rfl (by omega) (by omega) (cd_b_0 (fun g3 => ?_) (fun g3 => nm_r (nI_1 i) (go (by unfold cd_pf cd_sep; rw [g, g2, g3]; rfl))))
      have t : cd_any ws.length (cd_pf ws s a b) = true := cd_any_t (i := i) (by unfold cd_pf cd_sep; rw [g, g2, g3]; rfl) hi
      unfold cd_parts at hp
      rw [h0, t] at hp
      exact hp
  unfold wpX_parts
  refine cd_in s a rfl rfl (by omega) (by omega) (cd_b_0 (fun g => L (by unfold cd_sep; rw [g]; rfl)) (fun g => ?_))
  refine cd_in s b rfl rfl (by omega) (by omega) (cd_b_0 (fun g2 => ?_) (fun g2 => L (by unfold cd_sep; rw [g, g2]; rfl)))
  unfold cd_parts cd_sep at hp
  rw [g, g2] at hp
  exact hp
theorem cd_w_isW {post : Int32 → Prop} {F : List (Nat × Nat × Nat)} {ws : List Nat} {ct kn fd hu : Int32} {a1 a2 a3 a4 a5 : Nat → Int32} {s : Nat} (ok : cd_ok F ct a1 a2 a3) (hW : cd_W ws fd a4) (hs : s < 2048) (hp : post (cd_b (cd_isW F ws s))) : wpX_isWorld post (ct, kn, fd, hu, a1, a2, a3, a4, a5) (nI s) := by
  unfold wpX_isWorld
  refine cd_w_keeps ok (by omega) ?_
  obtain ⟨hn, rfl, hF⟩ := ok
  refine pk_loop (fun n i x => wX_isWorld_8 post (nI s) (nI F.length) kn fd hu a1 a2 a3 a4 a5 n x (nI i)) (fun i x => x = cd_b (and (cd_keeps F s) (cd_all i (cd_wf F ws s)))) F.length 0 (cd_b (cd_keeps F s)) (by omega) (by cases cd_keeps F s <;> rfl) ?_ ?_
  · intro n x h
    exact pk_le F.length F.length (fun _ => by rw [h]; exact ⟨cd_b_nar _, hp⟩) (fun z => absurd z (by omega))
  · intro n i x hi h hw
    obtain ⟨h1, h2, h3, e1, e2, e3⟩ := hF i hi
    have cl : (nI i).toNatClampNeg = i := nI_clamp (by omega)
    refine pk_le F.length i (fun z => absurd z (by omega)) (fun _ => ?_)
    cases hb : and (cd_keeps F s) (cd_all i (cd_wf F ws s)) with
    | false =>
      have hx : x = cd_b (cd_isW F ws s) := by
        rw [h, hb]
        unfold cd_isW
        cases hk : cd_keeps F s with
        | false => rfl
        | true =>
          rw [hk] at hb
          rw [cd_all_f (i := i) hb (Nat.le_of_lt hi)]
          rfl
      refine br_t (by rw [h, hb]; rfl) ?_
      rw [hx]
      exact ⟨cd_b_nar _, hp⟩
    | true =>
      have hx : x = 1 := by
        rw [h, hb]
        rfl
      have go : wX_isWorld_8 post (nI s) (nI F.length) kn fd hu a1 a2 a3 a4 a5 n (cd_b (cd_wf F ws s i)) (nI (i + 1)) := hw _ (by rw [cd_all_s, ← Bool.and_assoc, hb]; rfl)
      clear hw h
      subst hx
      refine br_f (by decide) ⟨pk_in i 11 (by omega), ?_⟩
      rw [cl, e1]
      refine pk_eq (cd_K F i) 2 (fun g => ?_) (fun g => nm_r (nI_1 i) ?_)
      · refine cd_in s i rfl rfl (by omega) (by omega) (cd_b_0 (fun g2 => ⟨pk_in i 11 (by omega), pk_in i 11 (by omega), cd_w_parts (a := cd_L F i) (b := cd_R F i) hW rfl e2 e3 hs h2 h3 (nm_r (nI_1 i) ?_)⟩) (fun g2 => nm_r (nI_1 i) ?_))
        · unfold cd_wf at go
          rw [g, g2] at go
          exact go
        · unfold cd_wf at go
          rw [g, g2] at go
          exact go
      · unfold cd_wf at go
        rw [cd_beq_f g] at go
        exact go
theorem cd_w_every {post : Int32 → Prop} {F : List (Nat × Nat × Nat)} {ct kn fd hu : Int32} {a1 a2 a3 a4 a5 : Nat → Int32} (ok : cd_ok F ct a1 a2 a3) (hp : post (nI (2 ^ F.length - 1))) : wpX_every post (ct, kn, fd, hu, a1, a2, a3, a4, a5) := by
  obtain ⟨hn, rfl, hF⟩ := ok
  show post (((1 : Int32) <<< (nI F.length &&& 31)) - 1)
  rw [cd_ev F.length (by omega)]
  exact hp
theorem cd_w_find {post : St2 → Prop} {F : List (Nat × Nat × Nat)} {ws : List Nat} {ct kn fd hu : Int32} {a1 a2 a3 a4 a5 : Nat → Int32} (hws : cd_find F = ws) (h : cd_I F ws (ct, kn, fd, hu, a1, a2, a3, a4, a5)) (hp : ∀ kn' fd' a4', ¬ kn' = 0 → cd_W ws fd' a4' → post (ct, kn', fd', hu, a1, a2, a3, a4', a5)) : wpX_find post (ct, kn, fd, hu, a1, a2, a3, a4, a5) := by
  obtain ⟨ok, hk⟩ := h
  refine br_c (fun z => cd_w_every ok ?_) (fun z => ?_)
  · have hn := ok.1
    have he := cd_evlt F.length (by omega)
    have D := pk_loopD (σ := Int32 × (Nat → Int32)) (fun n k s => wX_find_23 post ct 1 hu n (nI k + (-1)) s.1 a1 a2 a3 s.2 a5) (fun k s => ∃ l : List Nat, l.length + k ≤ 2048 ∧ cd_W l s.1 s.2 ∧ cd_fr F k l = ws) ?_ ?_ (2 ^ F.length) (0, a4) ⟨[], by show 0 + _ ≤ _; omega, ⟨by decide, rfl, fun j hj => absurd hj (by exact Nat.not_lt_zero j)⟩, hws⟩
    · refine ⟨2 ^ F.length + 1, ?_⟩
      have e : nI (2 ^ F.length) + (-1) = nI (2 ^ F.length - 1) := sb_m1 he.2.2
      rw [← e]
      exact D
    · intro n s hl
      obtain ⟨l, _, hl2, hl3⟩ := hl
      refine br_t (by decide) ?_
      have e : l = ws := hl3
      rw [e] at hl2
      exact hp 1 s.1 s.2 (by decide) hl2
    · intro n i s hl hw
      obtain ⟨l, hl1, hl2, hl3⟩ := hl
      show wX_find_23 post ct 1 hu (n + 1) (nI (i + 1) + (-1)) s.1 a1 a2 a3 s.2 a5
      rw [pk_m1]
      rw [cd_fr_s] at hl3
      refine br_f (nI_pos (by omega)) (cd_w_isW ok hl2 (by omega) (cd_b_0 (fun g => ?_) (fun g => ?_)))
      · rw [g] at hl3
        exact nm_e (hw s ⟨l, by omega, hl2, hl3⟩)
      · rw [g] at hl3
        obtain ⟨w1, w2, w3⟩ := hl2
        rw [w2]
        refine ⟨pk_in l.length 2048 (by omega), nm_e (nm_r (nI_1 _) (nm_e (hw (nI (l.length + 1), upd s.2 (nI l.length).toNatClampNeg (nI i).toInt16.toInt32) ⟨l ++ [i], by rw [cd_len1]; omega, ⟨by rw [cd_len1]; omega, by rw [cd_len1], ?_⟩, hl3⟩)))⟩
        exact cd_app (nI_clamp (by omega)) (by omega) (cd_i16 i (by omega)) w3
  · rcases hk with hk | hk
    · exact absurd hk z
    · exact hp kn fd a4 z hk.2
end
section
/-! closure, follows -/
theorem cd_w_cl {post : Int32 → Prop} {F : List (Nat × Nat × Nat)} {ws : List Nat} {ct kn fd hu : Int32} {a1 a2 a3 a4 a5 : Nat → Int32} {s : Nat} (ok : cd_ok F ct a1 a2 a3) (hW : cd_W ws fd a4) (hs : s < 2048) (hp : post (nI (cd_clI F.length ws s ws.length))) : wpX_closure post (ct, kn, fd, hu, a1, a2, a3, a4, a5) (nI s) := by
  unfold wpX_closure
  refine cd_w_every ok ?_
  obtain ⟨hm, rfl, hF⟩ := hW
  refine pk_loop (fun n i x => wX_closure_7 post (nI s) ct kn (nI ws.length) hu a1 a2 a3 a4 a5 n x (nI i)) (fun i x => x = nI (cd_clI F.length ws s i)) ws.length 0 (nI (2 ^ F.length - 1)) (by omega) rfl ?_ ?_
  · intro n x h
    exact pk_le ws.length ws.length (fun _ => by rw [h]; exact hp) (fun z => absurd z (by omega))
  · intro n i x hi h hw
    obtain ⟨h1, e1⟩ := hF i hi
    have cl : (nI i).toNatClampNeg = i := nI_clamp (by omega)
    refine pk_le ws.length i (fun z => absurd z (by omega)) (fun _ => ⟨pk_in i 2048 (by omega), ?_⟩)
    rw [cl, e1, h]
    refine cd_mi0 hs (fun g => ⟨pk_in i 2048 (by omega), nm_r (cd_and _ _) (nm_r (nI_1 i) (hw _ ?_))⟩) (fun g => nm_r (nI_1 i) (hw _ ?_))
    · rw [cd_clI_s, g]
      rfl
    · rw [cd_clI_s, g]
      rfl
theorem cd_w_fo {post : Int32 → St2 → Prop} {F : List (Nat × Nat × Nat)} {ws : List Nat} {u : St2} {p0 p1 : Int32} (s c : Nat) (hws : cd_find F = ws) (h : cd_I F ws u) (e0 : p0 = nI s) (e1 : p1 = nI c) (hc : c < F.length) (hp : ∀ u', cd_I F ws u' → post (cd_b (cd_fo F.length ws s c)) u') : wpX_follows post u p0 p1 := by
  obtain ⟨ct, kn, fd, hu, a1, a2, a3, a4, a5⟩ := u
  subst e0 e1
  have ok := h.1
  have hn := ok.1
  unfold wpX_follows
  refine cd_missing ok hc (br_t rfl (cd_w_find hws h (fun kn' fd' a4' hk hW => cd_w_every ok (nm_r (cd_and _ _) (cd_w_cl ok hW (cd_land_lt2 (cd_evlt F.length (by omega)).1) ?_)))))
  rw [cd_bit (Nat.lt_trans (cd_clI_lt (by omega) ws _ ws.length) (by decide)) (by omega)]
  exact hp (ct, kn', fd', hu, a1, a2, a3, a4', a5) ⟨ok, Or.inr ⟨hk, hW⟩⟩
/-! trueFor, classically -/
theorem cd_153 {post : Int32 → Prop} {J : Int32 → Int32 → Prop} {x1 ct kn fd hu : Int32} {a1 a2 a3 a4 a5 : Nat → Int32} {acc i : Nat} {b : Bool} (hi : i < 12) (hJ : J (nI (cond b (Nat.lor acc (2 ^ i)) acc)) (nI (i + 1))) : wX_trueFor_153 post J x1 (nI acc) (nI i) (cd_b b) ct kn fd hu a1 a2 a3 a4 a5 := by
  unfold wX_trueFor_153
  cases b with
  | false => exact br_t rfl (nm_r (nI_1 i) hJ)
  | true =>
    refine br_f (by decide) ?_
    rw [cd_sh i hi, cd_or]
    exact nm_e (nm_r (nI_1 i) hJ)
theorem cd_w_tf {post : Int32 → Prop} {F : List (Nat × Nat × Nat)} {ct kn fd hu : Int32} {a1 a2 a3 a4 a5 : Nat → Int32} {ch : Nat} (ok : cd_ok F ct a1 a2 a3) (hc : ch < 2 ^ 31) (hp : post (nI (cd_tf F ch F.length))) : wpX_trueFor post (ct, kn, fd, hu, a1, a2, a3, a4, a5) (nI ch) := by
  obtain ⟨hn, rfl, hF⟩ := ok
  refine pk_loop (fun n i x => wX_trueFor_4 post (nI ch) (nI F.length) kn fd hu a1 a2 a3 a4 a5 n x (nI i)) (fun i x => x = nI (cd_tf F ch i)) F.length 0 0 (by omega) rfl ?_ ?_
  · intro n x h
    exact pk_le F.length F.length (fun _ => by rw [h]; exact hp) (fun z => absurd z (by omega))
  · intro n i x hi h hw
    obtain ⟨h1, h2, h3, e1, e2, e3⟩ := hF i hi
    have cl : (nI i).toNatClampNeg = i := nI_clamp (by omega)
    have lt : cd_tf F ch i < 2048 := cd_tf_lt2 F ch (by omega)
    refine pk_le F.length i (fun z => absurd z (by omega)) (fun _ => ⟨pk_in i 11 (by omega), ?_⟩)
    have T0 : wX_trueFor_153 post (wX_trueFor_4 post (nI ch) (nI F.length) kn fd hu a1 a2 a3 a4 a5 n) (nI ch) (nI (cd_tf F ch i)) (nI i) (cd_b (cd_tg (cd_K F i) (cd_t ch (cd_L F i)) (cd_t (cd_tf F ch i) (cd_L F i)) (cd_t (cd_tf F ch i) (cd_R F i)))) (nI F.length) kn fd hu a1 a2 a3 a4 a5 := cd_153 (by omega) (hw _ (by rw [cd_tf_s]))
    clear hw hp hF
    rw [h]
    rw [cl, e1, e2, e3]
    refine cd_in (cd_tf F ch i) (cd_L F i) rfl rfl (by omega) (by omega) ⟨pk_in i 11 (by omega), cd_in (cd_tf F ch i) (cd_R F i) rfl rfl (by omega) (by omega) ⟨pk_in i 11 (by omega), ?_⟩⟩
    have hin : ∀ P : Int32 → Prop, P (cd_b (cd_t ch (cd_L F i))) → wpX_in P (nI F.length, kn, fd, hu, a1, a2, a3, a4, a5) (nI ch) (nI (cd_L F i)) := fun P hP => cd_in ch (cd_L F i) rfl rfl hc (by omega) hP
    clear e1 e2 e3 h3 cl h
    revert T0 hin h1
    generalize cd_K F i = k
    generalize cd_t ch (cd_L F i) = b1
    generalize cd_t (cd_tf F ch i) (cd_L F i) = b2
    generalize cd_t (cd_tf F ch i) (cd_R F i) = b3
    intro hk T0 hin
    have hk5 : k = 0 ∨ k = 1 ∨ k = 2 ∨ k = 3 ∨ k = 4 := by omega
    have pin : vp_in (nI i) 11 := pk_in i 11 (by omega)
    rcases hk5 with rfl | rfl | rfl | rfl | rfl <;> cases b1 <;> cases b2 <;> cases b3 <;> repeat (first | exact T0 | exact hin _ T0 | refine ⟨pin, ?_⟩ | refine br_t (by decide) ?_ | refine br_f (by decide) ?_)
theorem cd_w_ca {post : Int32 → Prop} {F : List (Nat × Nat × Nat)} {ct kn fd hu : Int32} {a1 a2 a3 a4 a5 : Nat → Int32} {s c : Nat} {p0 p1 : Int32} (ok : cd_ok F ct a1 a2 a3) (e0 : p0 = nI s) (e1 : p1 = nI c) (hc : c < F.length) (hp : post (cd_b (cd_ca F s c))) : wpX_classically post (ct, kn, fd, hu, a1, a2, a3, a4, a5) p0 p1 := by
  subst e0 e1
  have hn := ok.1
  have hs : Nat.land s (2 ^ F.length - 1) < 2048 := cd_land_lt2 (cd_evlt F.length (by omega)).1
  unfold wpX_classically
  refine cd_missing ok hc (br_t rfl (cd_w_every ok (nm_r (cd_and _ _) ?_)))
  unfold cd_ca at hp
  revert hp hs
  generalize Nat.land s (2 ^ F.length - 1) = a
  intro hp hs
  refine pk_loop (fun n i x => wX_classically_23 post (nI c) (nI a) ct kn fd hu a1 a2 a3 a4 a5 n x (nI i)) (fun i x => x = cd_b (cd_all i (cd_cf F a c))) 16 0 1 (by omega) rfl ?_ ?_
  · intro n x h
    refine pk_le 16 16 (fun _ => ?_) (fun z => absurd z (by omega))
    rw [h]
    exact cd_b_0 (fun e => by rw [e] at hp; exact hp) (fun e => by rw [e] at hp; exact hp)
  · intro n i x hi h hw
    have lt : cd_tf F i F.length < 2048 := cd_tf_lt2 F i (by omega)
    refine pk_le 16 i (fun z => absurd z (by omega)) (fun _ => cd_w_tf ok (by omega) ?_)
    rw [h]
    refine cd_b_0 (fun e => nm_r (nI_1 i) (hw _ (by rw [cd_all_s, e]; rfl))) (fun e => ?_)
    refine cd_mi0 hs (fun g => cd_in (cd_tf F i F.length) c rfl rfl (by omega) (by omega) (cd_b_0 (fun g2 => nm_r (nI_1 i) (hw _ ?_)) (fun g2 => nm_r (nI_1 i) (hw _ ?_)))) (fun g => nm_r (nI_1 i) (hw _ ?_))
    · rw [cd_all_s, e]
      unfold cd_cf
      rw [g, g2]
      rfl
    · rw [cd_all_s, e]
      unfold cd_cf
      rw [g, g2]
      rfl
    · rw [cd_all_s, e]
      unfold cd_cf
      rw [g]
      rfl
theorem cd_w_only {post : Int32 → St2 → Prop} {F : List (Nat × Nat × Nat)} {ws : List Nat} {u : St2} {p0 p1 : Int32} (s c : Nat) (hws : cd_find F = ws) (h : cd_I F ws u) (e0 : p0 = nI s) (e1 : p1 = nI c) (hc : c < F.length) (hf : cd_fo F.length ws s c = false) (ht : cd_ca F s c = true) (hp : ∀ u', cd_I F ws u' → post 1 u') : wpL_only post u p0 p1 := by
  obtain ⟨ct, kn, fd, hu, a1, a2, a3, a4, a5⟩ := u
  unfold wpL_only
  refine cd_w_fo s c hws h e0 e1 hc (fun u' h' => ?_)
  obtain ⟨ct, kn, fd, hu, a1, a2, a3, a4, a5⟩ := u'
  rw [hf]
  refine br_t rfl (cd_w_ca h'.1 e0 e1 hc ?_)
  rw [ht]
  exact br_t rfl (hp _ h')
theorem cd_w_both {post : Int32 → St2 → Prop} {F : List (Nat × Nat × Nat)} {ws : List Nat} {u : St2} {p0 p1 : Int32} (s c : Nat) (hws : cd_find F = ws) (h : cd_I F ws u) (e0 : p0 = nI s) (e1 : p1 = nI c) (hc : c < F.length) (hf : cd_fo F.length ws s c = true) (ht : cd_ca F s c = true) (hp : ∀ u', cd_I F ws u' → post 1 u') : wpL_both post u p0 p1 := by
  obtain ⟨ct, kn, fd, hu, a1, a2, a3, a4, a5⟩ := u
  unfold wpL_both
  refine cd_w_fo s c hws h e0 e1 hc (fun u' h' => ?_)
  obtain ⟨ct, kn, fd, hu, a1, a2, a3, a4, a5⟩ := u'
  rw [hf]
  refine br_t rfl (cd_w_ca h'.1 e0 e1 hc ?_)
  rw [ht]
  exact br_t rfl (hp _ h')
/-! alike -/
theorem cd_w_al {post : Int32 → St2 → Prop} {F : List (Nat × Nat × Nat)} {ws : List Nat} {u : St2} {p0 p1 : Int32} (a b : Nat) (hws : cd_find F = ws) (h : cd_I F ws u) (e0 : p0 = nI a) (e1 : p1 = nI b) (ha : a < F.length) (hb : b < F.length) (hp : ∀ u', cd_I F ws u' → post (cd_b (cd_al ws a b)) u') : wpX_alike post u p0 p1 := by
  obtain ⟨ct, kn, fd, hu, a1, a2, a3, a4, a5⟩ := u
  subst e0 e1
  have ok := h.1
  have hn := ok.1
  unfold wpX_alike
  refine cd_missing ok ha (br_t rfl (cd_missing ok hb (br_t rfl (cd_w_find hws h (fun kn' fd' a4' hk hW => ?_)))))
  have hp' := hp (ct, kn', fd', hu, a1, a2, a3, a4', a5) ⟨ok, Or.inr ⟨hk, hW⟩⟩
  clear hp
  obtain ⟨hm, rfl, hF⟩ := hW
  refine pk_loop (fun n i x => wX_alike_27 post (nI a) (nI b) ct kn' (nI ws.length) hu a1 a2 a3 a4' a5 n x (nI i)) (fun i x => x = cd_b (cd_all i (cd_af ws a b))) ws.length 0 1 (by omega) rfl ?_ ?_
  · intro n x g
    refine pk_le ws.length ws.length (fun _ => ?_) (fun z => absurd z (by omega))
    rw [g]
    unfold cd_al at hp'
    exact cd_b_0 (fun e => by rw [e] at hp'; exact hp') (fun e => by rw [e] at hp'; exact hp')
  · intro n i x hi g hw
    obtain ⟨h1, e1⟩ := hF i hi
    have cl : (nI i).toNatClampNeg = i := nI_clamp (by omega)
    refine pk_le ws.length i (fun z => absurd z (by omega)) (fun _ => ?_)
    rw [g]
    refine cd_b_0 (fun e => nm_r (nI_1 i) (hw _ (by rw [cd_all_s, e]; rfl))) (fun e => ⟨pk_in i 2048 (by omega), ?_⟩)
    rw [cl, e1]
    refine cd_in (ws.getD i 0) a rfl rfl (by omega) (by omega) ⟨pk_in i 2048 (by omega), cd_in (ws.getD i 0) b rfl rfl (by omega) (by omega) ?_⟩
    have go : wX_alike_27 post (nI a) (nI b) ct kn' (nI ws.length) hu a1 a2 a3 a4' a5 n (cd_b (cd_eqb (cd_t (ws.getD i 0) a) (cd_t (ws.getD i 0) b))) (nI (i + 1)) := hw _ (by rw [cd_all_s, e]; rfl)
    clear hw hp' hF e1 g
    revert go
    generalize cd_t (ws.getD i 0) a = b1
    generalize cd_t (ws.getD i 0) b = b2
    intro go
    cases b1 <;> cases b2 <;> first | exact br_t (by decide) (nm_r (nI_1 i) go) | exact br_f (by decide) (nm_r (nI_1 i) go)
/-! gather, sizeOf, meetsAll, enough -/
theorem cd_w_ga {post : Int32 → St2 → Prop} {ws : List Nat} {ct kn fd hu : Int32} {a1 a2 a3 a4 a5 : Nat → Int32} {s c : Nat} (hW : cd_W ws fd a4) (hs : s < 2048) (hc : c < 11) (hp : ∀ hu' a5', cd_Hu (cd_hs ws s c ws.length) hu' a5' → post (cd_b (cd_can ws s c ws.length)) (ct, kn, fd, hu', a1, a2, a3, a4, a5')) : wpX_gather post (ct, kn, fd, hu, a1, a2, a3, a4, a5) (nI s) (nI c) := by
  obtain ⟨hm, rfl, hF⟩ := hW
  refine pk_loop (σ := Int32 × Int32 × (Nat → Int32)) (fun n i t => wX_gather_10 post (nI s) (nI c) ct kn (nI ws.length) n t.1 (nI i) t.2.1 a1 a2 a3 a4 t.2.2) (fun i t => t.1 = cd_b (cd_can ws s c i) ∧ (cd_hs ws s c i).length ≤ i ∧ cd_Hu (cd_hs ws s c i) t.2.1 t.2.2) ws.length 0 (1, 0, a5) (by omega) ⟨rfl, Nat.le_refl 0, by exact Nat.zero_le _, rfl, fun j hj => absurd hj (Nat.not_lt_zero j)⟩ ?_ ?_
  · intro n t h
    obtain ⟨x, y, z⟩ := t
    obtain ⟨h1, h2, h3⟩ := h
    refine pk_le ws.length ws.length (fun _ => ?_) (fun z => absurd z (by omega))
    have h1' : x = cd_b (cd_can ws s c ws.length) := h1
    rw [h1']
    exact ⟨cd_b_nar _, hp y z h3⟩
  · intro n i t hi h hw
    obtain ⟨x, y, z⟩ := t
    obtain ⟨h1, h2, h3, h4, h5⟩ := h
    have h1' : x = cd_b (cd_can ws s c i) := h1
    have h4' : y = nI (cd_hs ws s c i).length := h4
    obtain ⟨lt, e1⟩ := hF i hi
    have cl : (nI i).toNatClampNeg = i := nI_clamp (by omega)
    have cl2 : (nI (cd_hs ws s c i).length).toNatClampNeg = (cd_hs ws s c i).length := nI_clamp (by omega)
    show wX_gather_10 post (nI s) (nI c) ct kn (nI ws.length) (n + 1) x (nI i) y a1 a2 a3 a4 z
    subst h1' h4'
    refine pk_le ws.length i (fun z => absurd z (by omega)) (fun _ => ⟨pk_in i 2048 (by omega), ?_⟩)
    rw [cl, e1]
    refine cd_in (ws.getD i 0) c rfl rfl (by omega) (by omega) (cd_b_0 (fun g => ?_) (fun g => nm_r (nI_1 i) (hw (cd_b (cd_can ws s c i), nI (cd_hs ws s c i).length, z) ?_)))
    · rw [cd_minus, cd_i16 _ (cd_mi_lt hs), cl2]
      refine ⟨pk_in i 2048 (by omega), pk_in (cd_hs ws s c i).length 2048 (by omega), nm_e ?_⟩
      have hsl : (cd_hs ws s c (i + 1)) = cd_hs ws s c i ++ [cd_mi s (ws.getD i 0)] := by
        rw [cd_hs_s, g]
        rfl
      have G : ∀ b, b = cd_can ws s c (i + 1) → wX_gather_10 post (nI s) (nI c) ct kn (nI ws.length) n (cd_b b) (nI (i + 1)) (nI ((cd_hs ws s c i).length + 1)) a1 a2 a3 a4 (upd z (cd_hs ws s c i).length (nI (cd_mi s (ws.getD i 0)))) := by
        intro b hb
        refine hw (cd_b b, nI ((cd_hs ws s c i).length + 1), upd z (cd_hs ws s c i).length (nI (cd_mi s (ws.getD i 0)))) ⟨by rw [hb], ?_⟩
        rw [hsl, cd_len1]
        refine ⟨by omega, by rw [cd_len1]; omega, by rw [cd_len1], ?_⟩
        exact cd_app rfl (cd_mi_lt hs) rfl h5
      have cs : cd_can ws s c (i + 1) = and (cd_can ws s c i) (not (Nat.beq (cd_mi s (ws.getD i 0)) 0)) := by
        rw [cd_can_s, g]
        rfl
      rw [cs] at G
      refine cd_b_0 (fun g2 => nm_r (nI_1 _) (nm_r (nI_1 i) (G false (by rw [g2]; rfl)))) (fun g2 => ⟨pk_in (cd_hs ws s c i).length 2048 (by omega), ?_⟩)
      rw [pk_us]
      refine pk_eq (cd_mi s (ws.getD i 0)) 0 (fun g3 => nm_r (nI_1 _) (nm_r (nI_1 i) (G false (by rw [g2, g3]; rfl)))) (fun g3 => nm_r (nI_1 _) (nm_r (nI_1 i) (G true (by rw [g2, cd_beq_f g3]; rfl)))) rfl rfl (Nat.lt_trans (cd_mi_lt hs) (by decide))
    · rw [cd_can_s, cd_hs_s, g]
      exact ⟨rfl, Nat.le_succ_of_le h2, h3, rfl, h5⟩
theorem cd_w_sz {post : Int32 → Prop} {F : List (Nat × Nat × Nat)} {ct kn fd hu : Int32} {a1 a2 a3 a4 a5 : Nat → Int32} {s : Nat} (ok : cd_ok F ct a1 a2 a3) (hs : s < 2048) (hp : post (nI (cd_sz s F.length))) : wpX_sizeOf post (ct, kn, fd, hu, a1, a2, a3, a4, a5) (nI s) := by
  obtain ⟨hn, rfl, hF⟩ := ok
  refine pk_loop (fun n i x => wX_sizeOf_4 post (nI s) (nI F.length) kn fd hu a1 a2 a3 a4 a5 n x (nI i)) (fun i x => x = nI (cd_sz s i)) F.length 0 0 (by omega) rfl ?_ ?_
  · intro n x h
    exact pk_le F.length F.length (fun _ => by rw [h]; exact hp) (fun z => absurd z (by omega))
  · intro n i x hi h hw
    refine pk_le F.length i (fun z => absurd z (by omega)) (fun _ => ?_)
    rw [h, cd_bitN (by omega) (by omega), nI_add]
    exact nm_e (nm_r (nI_1 i) (hw _ rfl))
theorem cd_w_me {post : Int32 → Prop} {hs : List Nat} {ct kn fd hu : Int32} {a1 a2 a3 a4 a5 : Nat → Int32} {s : Nat} (hH : cd_Hu hs hu a5) (hp : post (cd_b (cd_me hs s))) : wpX_meetsAll post (ct, kn, fd, hu, a1, a2, a3, a4, a5) (nI s) := by
  obtain ⟨hm, rfl, hF⟩ := hH
  refine pk_loop (fun n i x => wX_meetsAll_4 post (nI s) ct kn fd (nI hs.length) a1 a2 a3 a4 a5 n x (nI i)) (fun i x => x = cd_b (cd_all i (cd_mf hs s))) hs.length 0 1 (by omega) rfl ?_ ?_
  · intro n x h
    exact pk_le hs.length hs.length (fun _ => by rw [h]; exact ⟨cd_b_nar _, hp⟩) (fun z => absurd z (by omega))
  · intro n i x hi h hw
    obtain ⟨lt, e1⟩ := hF i hi
    have cl : (nI i).toNatClampNeg = i := nI_clamp (by omega)
    refine pk_le hs.length i (fun z => absurd z (by omega)) (fun _ => ?_)
    rw [h]
    refine cd_b_0 (fun e => ?_) (fun e => ⟨pk_in i 2048 (by omega), ?_⟩)
    · refine ⟨cd_b_nar _, ?_⟩
      unfold cd_me at hp
      rw [cd_all_f e (Nat.le_of_lt hi)] at hp
      rw [e]
      exact hp
    · rw [cl, e1, cd_and]
      have lt2 : Nat.land (hs.getD i 0) s < 2048 := cd_land_lt lt
      refine pk_eq (Nat.land (hs.getD i 0) s) 0 (fun g => nm_r (nI_1 i) (hw _ ?_)) (fun g => nm_r (nI_1 i) (hw _ ?_))
      · rw [cd_all_s, e]
        unfold cd_mf
        rw [g]
        rfl
      · rw [cd_all_s, e]
        unfold cd_mf
        rw [cd_beq_f g]
        rfl
theorem cd_en_loop {post : Int32 → St2 → Prop} {F : List (Nat × Nat × Nat)} {hs : List Nat} {ct kn fd hu : Int32} {a1 a2 a3 a4 a5 : Nat → Int32} {a : Nat} (ok : cd_ok F ct a1 a2 a3) (hH : cd_Hu hs hu a5) : ∀ (k part best : Nat), part ≤ k → part < 2048 → best ≤ 11 → post (nI (cond (Nat.beq hs.length 0) 0 (cd_en F.length hs a k part best))) (ct, kn, fd, hu, a1, a2, a3, a4, a5) → wX_enough_47 post (nI a) ct kn fd hu a1 a2 a3 a4 a5 (k + 1) (nI best) (nI part) := by
  have hn := ok.1
  have E : ∀ best, post (nI (cond (Nat.beq hs.length 0) 0 best)) (ct, kn, fd, hu, a1, a2, a3, a4, a5) → (hu = 0 → post 0 (ct, kn, fd, hu, a1, a2, a3, a4, a5)) ∧ (¬ hu = 0 → post (nI best) (ct, kn, fd, hu, a1, a2, a3, a4, a5)) := by
    intro best hp
    have h1 := hH.1
    refine pk_eq hs.length 0 (fun g => ?_) (fun g => ?_) hH.2.1 rfl
    · rw [g] at hp
      exact hp
    · rw [cd_beq_f g] at hp
      exact hp
  intro k
  induction k with
  | zero =>
    intro part best h1 h2 h3 hp
    have e : part = 0 := by omega
    subst e
    exact br_t (by decide) (E best hp)
  | succ k ih =>
    intro part best h1 h2 h3 hp
    rw [cd_en_s] at hp
    by_cases e : part = 0
    · subst e
      exact br_t (by decide) (E best hp)
    · rw [cd_beq_f e] at hp
      have hle := cd_sz_le part F.length
      have lt : Nat.land (part - 1) a ≤ part - 1 := Nat.and_le_left
      have pe : (nI part - 1) &&& nI a = nI (Nat.land (part - 1) a) := by
        rw [← cd_and, show part = (part - 1) + 1 by omega, nI_pred, Nat.add_sub_cancel]
      refine br_f (nI_nle (by omega) (by omega)) (cd_w_sz ok h2 ?_)
      refine pk_le best (cd_sz part F.length) (fun g => nm_r pe (ih _ _ (by omega) (by omega) h3 ?_)) (fun g => cd_w_me hH (cd_b_0 (fun g2 => nm_r pe (ih _ _ (by omega) (by omega) h3 ?_)) (fun g2 => nm_r pe (ih _ _ (by omega) (by omega) (by omega) ?_))))
      · rw [Nat.ble_eq_true_of_le g] at hp
        exact hp
      · rw [cd_ble_f g, g2] at hp
        exact hp
      · rw [cd_ble_f g, g2] at hp
        exact hp
theorem cd_w_en {post : Int32 → St2 → Prop} {F : List (Nat × Nat × Nat)} {ws : List Nat} {u : St2} {p0 p1 : Int32} (s c v : Nat) (hws : cd_find F = ws) (h : cd_I F ws u) (e0 : p0 = nI s) (e1 : p1 = nI c) (hc : c < F.length) (hs : Nat.land s (2 ^ F.length - 1) = s) (hcan : cd_can ws s c ws.length = true) (hv : cd_enr F.length (cd_hs ws s c ws.length) s = v) (hp : ∀ u', cd_I F ws u' → post (nI v) u') : wpX_enough post u p0 p1 := by
  obtain ⟨ct, kn, fd, hu, a1, a2, a3, a4, a5⟩ := u
  subst e0 e1
  have ok := h.1
  have hn := ok.1
  have hlt : s < 2048 := by
    rw [← hs]
    exact cd_land_lt2 (cd_evlt F.length (by omega)).1
  unfold wpX_enough
  refine cd_missing ok hc (br_t rfl (cd_w_find hws h (fun kn' fd' a4' hk hW => cd_w_every ok (nm_r (e' := nI s) (by rw [cd_and, hs]) (cd_w_ga hW hlt (by omega) (fun hu' a5' hH => ?_))))))
  rw [hcan]
  refine br_f (by decide) (cd_w_sz ok hlt ⟨s + 1, cd_en_loop ok hH s s _ (Nat.le_refl _) hlt (Nat.le_trans (cd_sz_le _ _) hn) ?_⟩)
  unfold cd_enr at hv
  rw [hv]
  exact hp (ct, kn', fd', hu', a1, a2, a3, a4', a5') ⟨ok, Or.inr ⟨hk, hW⟩⟩
/-! against -/
theorem cd_w_ag {post : Int32 → St2 → Prop} {F : List (Nat × Nat × Nat)} {ws : List Nat} {u : St2} {p0 p1 : Int32} (s c : Nat) (hws : cd_find F = ws) (h : cd_I F ws u) (e0 : p0 = nI s) (e1 : p1 = nI c) (hc : c < F.length) (hp : ∀ u', cd_I F ws u' → post (cd_ag ws (Nat.land s (2 ^ F.length - 1)) c ws.length) u') : wpX_against post u p0 p1 := by
  obtain ⟨ct, kn, fd, hu, a1, a2, a3, a4, a5⟩ := u
  subst e0 e1
  have ok := h.1
  have hn := ok.1
  have hs : Nat.land s (2 ^ F.length - 1) < 2048 := cd_land_lt2 (cd_evlt F.length (by omega)).1
  unfold wpX_against
  refine cd_missing ok hc (br_t rfl (cd_w_find hws h (fun kn' fd' a4' hk hW => cd_w_every ok (nm_r (cd_and _ _) ?_))))
  have hp' := hp (ct, kn', fd', hu, a1, a2, a3, a4', a5) ⟨ok, Or.inr ⟨hk, hW⟩⟩
  clear hp
  revert hp' hs
  generalize Nat.land s (2 ^ F.length - 1) = a
  intro hs hp'
  obtain ⟨hm, rfl, hF⟩ := hW
  refine pk_loop (fun n i x => wX_against_28 post (nI c) (nI a) ct kn' (nI ws.length) hu a1 a2 a3 a4' a5 n x (nI i)) (fun i x => x = cd_ag ws a c i) ws.length 0 (-4) (by omega) rfl ?_ ?_
  · intro n x g
    exact pk_le ws.length ws.length (fun _ => by rw [g]; exact hp') (fun z => absurd z (by omega))
  · intro n i x hi g hw
    obtain ⟨h1, e1⟩ := hF i hi
    have cl : (nI i).toNatClampNeg = i := nI_clamp (by omega)
    refine pk_le ws.length i (fun z => absurd z (by omega)) (fun _ => ⟨pk_in i 2048 (by omega), ?_⟩)
    rw [cl, e1]
    refine cd_mi0 hs (fun g1 => ⟨pk_in i 2048 (by omega), cd_in (ws.getD i 0) c rfl rfl (by omega) (by omega) (cd_b_0 (fun g2 => ⟨pk_in i 2048 (by omega), nm_e (nm_r (nI_1 i) (hw _ ?_))⟩) (fun g2 => nm_r (nI_1 i) (hw _ ?_)))⟩) (fun g1 => nm_r (nI_1 i) (hw _ ?_))
    · rw [cd_ag_s, g1, g2]
      rfl
    · rw [cd_ag_s, g1, g2]
      exact g
    · rw [cd_ag_s, g1]
      exact g
end
section
/-! the lists of formulas that the law makes, one a way, and their saturated sets: printed by gen_law.py -/
def cd_F0 (p q x o : Nat) : List (Nat × Nat × Nat) := [(3, p, 0), (3, q, 0), (4, 0, 0), (2, x, 2), (1, (cond (Nat.beq o 0) x 3), (cond (Nat.beq o 0) 3 x)), (2, 4, 2), (2, 5, 2)]
def cd_ws0 (x o : Nat) : List Nat := cond (Nat.beq x 0) (cond (Nat.beq o 0) [90, 88, 83, 81, 66, 64] [90, 88, 83, 81, 66, 64]) (cond (Nat.beq o 0) [89, 88, 83, 82, 65, 64] [89, 88, 83, 82, 65, 64])
def cd_F1 (p q x o : Nat) : List (Nat × Nat × Nat) := [(3, p, 0), (3, q, 0), (4, 0, 0), (2, x, 2), (2, 3, 2), (2, x, 4), (2, 4, x), (2, 4, 2)]
def cd_ws1 (x o : Nat) : List Nat := cond (Nat.beq x 0) (cond (Nat.beq o 0) [234, 232, 115, 113, 98, 96, 50, 48, 34, 32] [234, 232, 115, 113, 98, 96, 50, 48, 34, 32]) (cond (Nat.beq o 0) [233, 232, 115, 114, 97, 96, 49, 48, 33, 32] [233, 232, 115, 114, 97, 96, 49, 48, 33, 32])
def cd_F2 (p q x o : Nat) : List (Nat × Nat × Nat) := [(3, p, 0), (3, q, 0), (4, 0, 0), (2, x, 2), (2, x, (1 - x)), (2, 4, x), (2, 5, x), (1, 4, 3)]
def cd_ws2 (x o : Nat) : List Nat := cond (Nat.beq x 0) (cond (Nat.beq o 0) [243, 218, 216, 210, 208, 97, 64, 32, 0] [243, 218, 216, 210, 208, 97, 64, 32, 0]) (cond (Nat.beq o 0) [243, 217, 216, 209, 208, 98, 64, 32, 0] [243, 217, 216, 209, 208, 98, 64, 32, 0])
def cd_F3 (p q x o : Nat) : List (Nat × Nat × Nat) := [(3, p, 0), (3, q, 0), (4, 0, 0), (2, x, 2), (2, (1 - x), 2), (0, o, (1 - o)), (2, 5, 2), (1, 3, 4), (1, o, (1 - o)), (2, 8, 2), (0, 4, 3)]
def cd_ws3 (x o : Nat) : List Nat := cond (Nat.beq x 0) (cond (Nat.beq o 0) [1752, 465, 458, 291, 258, 257, 208, 200, 64, 0] [1752, 465, 458, 291, 258, 257, 208, 200, 64, 0]) (cond (Nat.beq o 0) [1752, 466, 457, 291, 258, 257, 208, 200, 64, 0] [1752, 466, 457, 291, 258, 257, 208, 200, 64, 0])
theorem cd_kok_c {k : Nat} {h a b a' b' : Bool} (hk : ¬ k < 3) : cd_kok k h a b = cd_kok k h a' b' := by
  unfold cd_kok
  rw [cd_beq_f (show k ≠ 0 by omega), cd_beq_f (show k ≠ 1 by omega), cd_beq_f (show k ≠ 2 by omega)]
  rfl
/-- the saturated sets don't look at the atoms' own numbers -/
theorem cd_find_c {F G : List (Nat × Nat × Nat)} (hl : F.length = G.length) (hk : ∀ i, cd_K F i = cd_K G i) (hlr : ∀ i, cd_K G i < 3 → cd_L F i = cd_L G i ∧ cd_R F i = cd_R G i) : cd_find F = cd_find G := by
  have h1 : ∀ s, cd_kf F s = cd_kf G s := by
    intro s
    funext i
    unfold cd_kf
    rw [hk i]
    by_cases e : cd_K G i < 3
    · rw [(hlr i e).1, (hlr i e).2]
    · exact cd_kok_c e
  have h2 : ∀ ws s, cd_wf F ws s = cd_wf G ws s := by
    intro ws s
    funext i
    unfold cd_wf
    rw [hk i]
    by_cases e : cd_K G i < 3
    · rw [(hlr i e).1, (hlr i e).2]
    · rw [cd_beq_f (show cd_K G i ≠ 2 by omega)]
      rfl
  have h3 : ∀ ws s, cd_isW F ws s = cd_isW G ws s := by
    intro ws s
    unfold cd_isW cd_keeps
    rw [h1, h2, hl]
  have h4 : ∀ k ws, cd_fr F k ws = cd_fr G k ws := by
    intro k
    induction k with
    | zero => intro ws; rfl
    | succ k ih =>
      intro ws
      rw [cd_fr_s, cd_fr_s, h3, ih, ih]
  unfold cd_find
  rw [hl, h4]
theorem cd_find_a (p q : Nat) (T : List (Nat × Nat × Nat)) : cd_find ((3, p, 0) :: (3, q, 0) :: T) = cd_find ((3, 0, 0) :: (3, 0, 0) :: T) := by
  refine cd_find_c rfl (fun i => ?_) (fun i => ?_)
  · match i with
    | 0 => rfl
    | 1 => rfl
    | _ + 2 => rfl
  · match i with
    | 0 => intro h; exact absurd (show 3 < 3 from h) (by decide)
    | 1 => intro h; exact absurd (show 3 < 3 from h) (by decide)
    | _ + 2 => intro _; exact ⟨rfl, rfl⟩
theorem cd_find0_0 : ∀ x, x < 2 → ∀ o, o < 2 → cd_find (cd_F0 0 0 x o) = cd_ws0 x o := by decide +kernel
theorem cd_find0 (p q : Nat) {x o : Nat} (hx : x < 2) (ho : o < 2) : cd_find (cd_F0 p q x o) = cd_ws0 x o := (cd_find_a p q _).trans (cd_find0_0 x hx o ho)
theorem cd_find1_0 : ∀ x, x < 2 → ∀ o, o < 2 → cd_find (cd_F1 0 0 x o) = cd_ws1 x o := by decide +kernel
theorem cd_find1 (p q : Nat) {x o : Nat} (hx : x < 2) (ho : o < 2) : cd_find (cd_F1 p q x o) = cd_ws1 x o := (cd_find_a p q _).trans (cd_find1_0 x hx o ho)
theorem cd_find2_0 : ∀ x, x < 2 → ∀ o, o < 2 → cd_find (cd_F2 0 0 x o) = cd_ws2 x o := by decide +kernel
theorem cd_find2 (p q : Nat) {x o : Nat} (hx : x < 2) (ho : o < 2) : cd_find (cd_F2 p q x o) = cd_ws2 x o := (cd_find_a p q _).trans (cd_find2_0 x hx o ho)
theorem cd_find3_0 : ∀ x, x < 2 → ∀ o, o < 2 → cd_find (cd_F3 0 0 x o) = cd_ws3 x o := by decide +kernel
theorem cd_find3 (p q : Nat) {x o : Nat} (hx : x < 2) (ho : o < 2) : cd_find (cd_F3 p q x o) = cd_ws3 x o := (cd_find_a p q _).trans (cd_find3_0 x hx o ho)
end
section
/-! the questions with their answers given -/
theorem cd_w_fo1 {post : Int32 → St2 → Prop} {F : List (Nat × Nat × Nat)} {ws : List Nat} {u : St2} {p0 p1 : Int32} (s c : Nat) (v : Bool) (hws : cd_find F = ws) (h : cd_I F ws u) (e0 : p0 = nI s) (e1 : p1 = nI c) (hc : c < F.length) (hv : cd_fo F.length ws s c = v) (hp : ∀ u', cd_I F ws u' → post (cd_b v) u') : wpX_follows post u p0 p1 :=
  cd_w_fo s c hws h e0 e1 hc (fun u' h' => by rw [hv]; exact hp u' h')
theorem cd_w_al1 {post : Int32 → St2 → Prop} {F : List (Nat × Nat × Nat)} {ws : List Nat} {u : St2} {p0 p1 : Int32} (a b : Nat) (v : Bool) (hws : cd_find F = ws) (h : cd_I F ws u) (e0 : p0 = nI a) (e1 : p1 = nI b) (ha : a < F.length) (hb : b < F.length) (hv : cd_al ws a b = v) (hp : ∀ u', cd_I F ws u' → post (cd_b v) u') : wpX_alike post u p0 p1 :=
  cd_w_al a b hws h e0 e1 ha hb (fun u' h' => by rw [hv]; exact hp u' h')
theorem cd_w_ag1 {post : Int32 → St2 → Prop} {F : List (Nat × Nat × Nat)} {ws : List Nat} {u : St2} {p0 p1 : Int32} (s c : Nat) (v : Int32) (hws : cd_find F = ws) (h : cd_I F ws u) (e0 : p0 = nI s) (e1 : p1 = nI c) (hc : c < F.length) (hv : cd_ag ws (Nat.land s (2 ^ F.length - 1)) c ws.length = v) (hp : ∀ u', cd_I F ws u' → post v u') : wpX_against post u p0 p1 :=
  cd_w_ag s c hws h e0 e1 hc (fun u' h' => by rw [hv]; exact hp u' h')
theorem cd_w_ca0 {post : Int32 → Prop} {F : List (Nat × Nat × Nat)} {ct kn fd hu : Int32} {a1 a2 a3 a4 a5 : Nat → Int32} {s c : Nat} {p0 p1 : Int32} (ok : cd_ok F ct a1 a2 a3) (e0 : p0 = nI s) (e1 : p1 = nI c) (hc : c < F.length) (hv : cd_ca F s c = false) (hp : post 0) : wpX_classically post (ct, kn, fd, hu, a1, a2, a3, a4, a5) p0 p1 :=
  cd_w_ca ok e0 e1 hc (by rw [hv]; exact hp)
theorem cd_1x {x : Nat} (hx : x < 2) : 1 - nI x = nI (1 - x) := pk_sub (a := 1) (by omega)
theorem cd_sx {x : Nat} (hx : x < 2) : (1 : Int32) <<< (nI x &&& 31) = nI (2 ^ x) := cd_sh x (by omega)
theorem cd_ox (k : Nat) {x : Nat} (hx : x < 2) : nI k ||| ((1 : Int32) <<< (nI x &&& 31)) = nI (Nat.lor k (2 ^ x)) := by
  rw [cd_sx hx, cd_or]
end
section
/-! every answer that the law asks for, over the tables: printed by gen_law.py -/
theorem cd_qb_1 : ∀ p, p < 4 → ∀ q, q < 4 → p ≠ q → cd_at [(3, p, 0)] 3 q 0 1 = true := by decide +kernel
theorem cd_q0_2 : ∀ p, p < 4 → ∀ q, q < 4 → ∀ x, x < 2 → ∀ o, o < 2 → cd_at [(3, p, 0), (3, q, 0), (4, 0, 0), (2, x, 2)] 1 (cond (Nat.beq o 0) x 3) (cond (Nat.beq o 0) 3 x) 4 = true := by decide +kernel
theorem cd_q0_3 : ∀ p, p < 4 → ∀ q, q < 4 → ∀ x, x < 2 → ∀ o, o < 2 → cd_at [(3, p, 0), (3, q, 0), (4, 0, 0), (2, x, 2), (1, (cond (Nat.beq o 0) x 3), (cond (Nat.beq o 0) 3 x))] 2 4 2 5 = true := by decide +kernel
theorem cd_q0_4 : ∀ p, p < 4 → ∀ q, q < 4 → ∀ x, x < 2 → ∀ o, o < 2 → cd_at [(3, p, 0), (3, q, 0), (4, 0, 0), (2, x, 2), (1, (cond (Nat.beq o 0) x 3), (cond (Nat.beq o 0) 3 x)), (2, 4, 2)] 2 5 2 6 = true := by decide +kernel
theorem cd_q0_5 : ∀ x, x < 2 → ∀ o, o < 2 → cd_fo 7 (cd_ws0 x o) 0 4 = false := by decide +kernel
theorem cd_q0_6 : ∀ p, p < 4 → ∀ q, q < 4 → ∀ x, x < 2 → ∀ o, o < 2 → cd_ca (cd_F0 p q x o) 0 4 = true := by decide +kernel
theorem cd_q0_7 : ∀ x, x < 2 → ∀ o, o < 2 → cd_fo 7 (cd_ws0 x o) 0 6 = true := by decide +kernel
theorem cd_q0_8 : ∀ p, p < 4 → ∀ q, q < 4 → ∀ x, x < 2 → ∀ o, o < 2 → cd_ca (cd_F0 p q x o) 0 6 = true := by decide +kernel
theorem cd_q0_9 : ∀ x, x < 2 → ∀ o, o < 2 → cd_fo 7 (cd_ws0 x o) 64 4 = false := by decide +kernel
theorem cd_q0_10 : ∀ p, p < 4 → ∀ q, q < 4 → ∀ x, x < 2 → ∀ o, o < 2 → cd_ca (cd_F0 p q x o) 64 4 = true := by decide +kernel
theorem cd_q0_11 : ∀ x, x < 2 → ∀ o, o < 2 → cd_fo 7 (cd_ws0 x o) 16 6 = true := by decide +kernel
theorem cd_q0_12 : ∀ p, p < 4 → ∀ q, q < 4 → ∀ x, x < 2 → ∀ o, o < 2 → cd_ca (cd_F0 p q x o) 16 6 = true := by decide +kernel
theorem cd_q0_13 : ∀ x, x < 2 → ∀ o, o < 2 → cd_fo 7 (cd_ws0 x o) 32 2 = true := by decide +kernel
theorem cd_q0_14 : ∀ t, t < 4 → ∀ x, x < 2 → ∀ o, o < 2 → Nat.land (Nat.lor 32 t) (2 ^ 7 - 1) = (Nat.lor 32 t) := by decide +kernel
theorem cd_q0_15 : ∀ t, t < 4 → ∀ x, x < 2 → ∀ o, o < 2 → cd_can (cd_ws0 x o) (Nat.lor 32 t) 2 (cd_ws0 x o).length = true := by decide +kernel
theorem cd_q0_16 : ∀ t, t < 4 → ∀ x, x < 2 → ∀ o, o < 2 → cd_enr 7 (cd_hs (cd_ws0 x o) (Nat.lor 32 t) 2 (cd_ws0 x o).length) (Nat.lor 32 t) = 1 := by decide +kernel
theorem cd_q0_17 : ∀ x, x < 2 → ∀ o, o < 2 → cd_al (cd_ws0 x o) 4 6 = false := by decide +kernel
theorem cd_q0_18 : ∀ x, x < 2 → ∀ o, o < 2 → cd_al (cd_ws0 x o) 5 2 = true := by decide +kernel
theorem cd_q0_19 : ∀ x, x < 2 → ∀ o, o < 2 → cd_fo 7 (cd_ws0 x o) (2 ^ x) 4 = true := by decide +kernel
theorem cd_q0_20 : ∀ x, x < 2 → ∀ o, o < 2 → cd_fo 7 (cd_ws0 x o) 8 4 = true := by decide +kernel
theorem cd_q0_21 : ∀ x, x < 2 → ∀ o, o < 2 → cd_ag (cd_ws0 x o) (Nat.land 0 (2 ^ 7 - 1)) 4 (cd_ws0 x o).length = 64 := by decide +kernel
theorem cd_q1_22 : ∀ p, p < 4 → ∀ q, q < 4 → ∀ x, x < 2 → ∀ o, o < 2 → cd_at [(3, p, 0), (3, q, 0), (4, 0, 0), (2, x, 2)] 2 3 2 4 = true := by decide +kernel
theorem cd_q1_23 : ∀ p, p < 4 → ∀ q, q < 4 → ∀ x, x < 2 → ∀ o, o < 2 → cd_at [(3, p, 0), (3, q, 0), (4, 0, 0), (2, x, 2), (2, 3, 2)] 2 x 4 5 = true := by decide +kernel
theorem cd_q1_24 : ∀ p, p < 4 → ∀ q, q < 4 → ∀ x, x < 2 → ∀ o, o < 2 → cd_at [(3, p, 0), (3, q, 0), (4, 0, 0), (2, x, 2), (2, 3, 2), (2, x, 4)] 2 4 x 6 = true := by decide +kernel
theorem cd_q1_25 : ∀ p, p < 4 → ∀ q, q < 4 → ∀ x, x < 2 → ∀ o, o < 2 → cd_at [(3, p, 0), (3, q, 0), (4, 0, 0), (2, x, 2), (2, 3, 2), (2, x, 4), (2, 4, x)] 2 4 2 7 = true := by decide +kernel
theorem cd_q1_26 : ∀ x, x < 2 → ∀ o, o < 2 → cd_fo 8 (cd_ws1 x o) 0 5 = true := by decide +kernel
theorem cd_q1_27 : ∀ p, p < 4 → ∀ q, q < 4 → ∀ x, x < 2 → ∀ o, o < 2 → cd_ca (cd_F1 p q x o) 0 5 = true := by decide +kernel
theorem cd_q1_28 : ∀ x, x < 2 → ∀ o, o < 2 → cd_fo 8 (cd_ws1 x o) 0 6 = false := by decide +kernel
theorem cd_q1_29 : ∀ p, p < 4 → ∀ q, q < 4 → ∀ x, x < 2 → ∀ o, o < 2 → cd_ca (cd_F1 p q x o) 0 6 = true := by decide +kernel
theorem cd_q1_30 : ∀ x, x < 2 → ∀ o, o < 2 → cd_fo 8 (cd_ws1 x o) 16 x = false := by decide +kernel
theorem cd_q1_31 : ∀ p, p < 4 → ∀ q, q < 4 → ∀ x, x < 2 → ∀ o, o < 2 → cd_ca (cd_F1 p q x o) 16 x = true := by decide +kernel
theorem cd_q1_32 : ∀ x, x < 2 → ∀ o, o < 2 → cd_al (cd_ws1 x o) 3 7 = true := by decide +kernel
theorem cd_q1_33 : ∀ x, x < 2 → ∀ o, o < 2 → cd_al (cd_ws1 x o) 4 x = false := by decide +kernel
theorem cd_q1_34 : ∀ x, x < 2 → ∀ o, o < 2 → cd_fo 8 (cd_ws1 x o) 128 3 = true := by decide +kernel
theorem cd_q1_35 : ∀ p, p < 4 → ∀ q, q < 4 → ∀ x, x < 2 → ∀ o, o < 2 → cd_ca (cd_F1 p q x o) 128 3 = true := by decide +kernel
theorem cd_q1_36 : ∀ x, x < 2 → ∀ o, o < 2 → cd_fo 8 (cd_ws1 x o) (Nat.lor 8 (2 ^ x)) (1 - x) = true := by decide +kernel
theorem cd_q1_37 : ∀ x, x < 2 → ∀ o, o < 2 → Nat.land (Nat.lor 8 (2 ^ x)) (2 ^ 8 - 1) = (Nat.lor 8 (2 ^ x)) := by decide +kernel
theorem cd_q1_38 : ∀ x, x < 2 → ∀ o, o < 2 → cd_can (cd_ws1 x o) (Nat.lor 8 (2 ^ x)) 2 (cd_ws1 x o).length = true := by decide +kernel
theorem cd_q1_39 : ∀ x, x < 2 → ∀ o, o < 2 → cd_enr 8 (cd_hs (cd_ws1 x o) (Nat.lor 8 (2 ^ x)) 2 (cd_ws1 x o).length) (Nat.lor 8 (2 ^ x)) = 2 := by decide +kernel
theorem cd_q1_40 : ∀ x, x < 2 → ∀ o, o < 2 → cd_fo 8 (cd_ws1 x o) 24 2 = true := by decide +kernel
theorem cd_q2_41 : ∀ p, p < 4 → ∀ q, q < 4 → ∀ x, x < 2 → ∀ o, o < 2 → cd_at [(3, p, 0), (3, q, 0), (4, 0, 0), (2, x, 2)] 2 x (1 - x) 4 = true := by decide +kernel
theorem cd_q2_42 : ∀ p, p < 4 → ∀ q, q < 4 → ∀ x, x < 2 → ∀ o, o < 2 → cd_at [(3, p, 0), (3, q, 0), (4, 0, 0), (2, x, 2), (2, x, (1 - x))] 2 4 x 5 = true := by decide +kernel
theorem cd_q2_43 : ∀ p, p < 4 → ∀ q, q < 4 → ∀ x, x < 2 → ∀ o, o < 2 → cd_at [(3, p, 0), (3, q, 0), (4, 0, 0), (2, x, 2), (2, x, (1 - x)), (2, 4, x)] 2 5 x 6 = true := by decide +kernel
theorem cd_q2_44 : ∀ p, p < 4 → ∀ q, q < 4 → ∀ x, x < 2 → ∀ o, o < 2 → cd_at [(3, p, 0), (3, q, 0), (4, 0, 0), (2, x, 2), (2, x, (1 - x)), (2, 4, x), (2, 5, x)] 1 4 3 7 = true := by decide +kernel
theorem cd_q2_45 : ∀ x, x < 2 → ∀ o, o < 2 → cd_fo 8 (cd_ws2 x o) 0 6 = false := by decide +kernel
theorem cd_q2_46 : ∀ p, p < 4 → ∀ q, q < 4 → ∀ x, x < 2 → ∀ o, o < 2 → cd_ca (cd_F2 p q x o) 0 6 = true := by decide +kernel
theorem cd_q2_47 : ∀ x, x < 2 → ∀ o, o < 2 → cd_fo 8 (cd_ws2 x o) 32 x = false := by decide +kernel
theorem cd_q2_48 : ∀ p, p < 4 → ∀ q, q < 4 → ∀ x, x < 2 → ∀ o, o < 2 → cd_ca (cd_F2 p q x o) 32 x = true := by decide +kernel
theorem cd_q2_49 : ∀ x, x < 2 → ∀ o, o < 2 → cd_fo 8 (cd_ws2 x o) 8 4 = true := by decide +kernel
theorem cd_q2_50 : ∀ p, p < 4 → ∀ q, q < 4 → ∀ x, x < 2 → ∀ o, o < 2 → cd_ca (cd_F2 p q x o) 8 4 = true := by decide +kernel
theorem cd_q2_51 : ∀ x, x < 2 → ∀ o, o < 2 → cd_fo 8 (cd_ws2 x o) 128 4 = true := by decide +kernel
theorem cd_q2_52 : ∀ p, p < 4 → ∀ q, q < 4 → ∀ x, x < 2 → ∀ o, o < 2 → cd_ca (cd_F2 p q x o) 128 4 = true := by decide +kernel
theorem cd_q2_53 : ∀ x, x < 2 → ∀ o, o < 2 → cd_fo 8 (cd_ws2 x o) 16 3 = false := by decide +kernel
theorem cd_q2_54 : ∀ p, p < 4 → ∀ q, q < 4 → ∀ x, x < 2 → ∀ o, o < 2 → cd_ca (cd_F2 p q x o) 16 3 = false := by decide +kernel
theorem cd_q2_55 : ∀ x, x < 2 → ∀ o, o < 2 → cd_fo 8 (cd_ws2 x o) 48 x = true := by decide +kernel
theorem cd_q2_56 : ∀ x, x < 2 → ∀ o, o < 2 → Nat.land (Nat.lor 16 (2 ^ x)) (2 ^ 8 - 1) = (Nat.lor 16 (2 ^ x)) := by decide +kernel
theorem cd_q2_57 : ∀ x, x < 2 → ∀ o, o < 2 → cd_can (cd_ws2 x o) (Nat.lor 16 (2 ^ x)) (1 - x) (cd_ws2 x o).length = true := by decide +kernel
theorem cd_q2_58 : ∀ x, x < 2 → ∀ o, o < 2 → cd_enr 8 (cd_hs (cd_ws2 x o) (Nat.lor 16 (2 ^ x)) (1 - x) (cd_ws2 x o).length) (Nat.lor 16 (2 ^ x)) = 2 := by decide +kernel
theorem cd_q2_59 : ∀ x, x < 2 → ∀ o, o < 2 → Nat.land 56 (2 ^ 8 - 1) = 56 := by decide +kernel
theorem cd_q2_60 : ∀ x, x < 2 → ∀ o, o < 2 → cd_can (cd_ws2 x o) 56 2 (cd_ws2 x o).length = true := by decide +kernel
theorem cd_q2_61 : ∀ x, x < 2 → ∀ o, o < 2 → cd_enr 8 (cd_hs (cd_ws2 x o) 56 2 (cd_ws2 x o).length) 56 = 2 := by decide +kernel
theorem cd_q3_at : ∀ p, p < 4 → ∀ q, q < 4 → ∀ x, x < 2 → ∀ o, o < 2 → (q + 1) % 4 ≠ p → cd_at (cd_F3 p q x o) 3 ((q + 1) % 4) 0 11 = true := by decide +kernel
theorem cd_q3_63 : ∀ p, p < 4 → ∀ q, q < 4 → ∀ x, x < 2 → ∀ o, o < 2 → cd_at [(3, p, 0), (3, q, 0), (4, 0, 0), (2, x, 2)] 2 (1 - x) 2 4 = true := by decide +kernel
theorem cd_q3_64 : ∀ p, p < 4 → ∀ q, q < 4 → ∀ x, x < 2 → ∀ o, o < 2 → cd_at [(3, p, 0), (3, q, 0), (4, 0, 0), (2, x, 2), (2, (1 - x), 2)] 0 o (1 - o) 5 = true := by decide +kernel
theorem cd_q3_65 : ∀ p, p < 4 → ∀ q, q < 4 → ∀ x, x < 2 → ∀ o, o < 2 → cd_at [(3, p, 0), (3, q, 0), (4, 0, 0), (2, x, 2), (2, (1 - x), 2), (0, o, (1 - o))] 2 5 2 6 = true := by decide +kernel
theorem cd_q3_66 : ∀ p, p < 4 → ∀ q, q < 4 → ∀ x, x < 2 → ∀ o, o < 2 → cd_at [(3, p, 0), (3, q, 0), (4, 0, 0), (2, x, 2), (2, (1 - x), 2), (0, o, (1 - o)), (2, 5, 2)] 1 3 4 7 = true := by decide +kernel
theorem cd_q3_67 : ∀ p, p < 4 → ∀ q, q < 4 → ∀ x, x < 2 → ∀ o, o < 2 → cd_at [(3, p, 0), (3, q, 0), (4, 0, 0), (2, x, 2), (2, (1 - x), 2), (0, o, (1 - o)), (2, 5, 2), (1, 3, 4)] 1 o (1 - o) 8 = true := by decide +kernel
theorem cd_q3_68 : ∀ p, p < 4 → ∀ q, q < 4 → ∀ x, x < 2 → ∀ o, o < 2 → cd_at [(3, p, 0), (3, q, 0), (4, 0, 0), (2, x, 2), (2, (1 - x), 2), (0, o, (1 - o)), (2, 5, 2), (1, 3, 4), (1, o, (1 - o))] 2 8 2 9 = true := by decide +kernel
theorem cd_q3_69 : ∀ p, p < 4 → ∀ q, q < 4 → ∀ x, x < 2 → ∀ o, o < 2 → cd_at [(3, p, 0), (3, q, 0), (4, 0, 0), (2, x, 2), (2, (1 - x), 2), (0, o, (1 - o)), (2, 5, 2), (1, 3, 4), (1, o, (1 - o)), (2, 8, 2)] 0 4 3 10 = true := by decide +kernel
theorem cd_q3_70 : ∀ x, x < 2 → ∀ o, o < 2 → cd_fo 11 (cd_ws3 x o) 128 6 = true := by decide +kernel
theorem cd_q3_71 : ∀ p, p < 4 → ∀ q, q < 4 → ∀ x, x < 2 → ∀ o, o < 2 → cd_ca (cd_F3 p q x o) 128 6 = true := by decide +kernel
theorem cd_q3_72 : ∀ x, x < 2 → ∀ o, o < 2 → cd_fo 11 (cd_ws3 x o) 64 7 = false := by decide +kernel
theorem cd_q3_73 : ∀ p, p < 4 → ∀ q, q < 4 → ∀ x, x < 2 → ∀ o, o < 2 → cd_ca (cd_F3 p q x o) 64 7 = true := by decide +kernel
theorem cd_q3_74 : ∀ x, x < 2 → ∀ o, o < 2 → cd_al (cd_ws3 x o) 9 10 = true := by decide +kernel
theorem cd_q3_75 : ∀ x, x < 2 → ∀ o, o < 2 → cd_fo 11 (cd_ws3 x o) 512 3 = true := by decide +kernel
theorem cd_q3_76 : ∀ p, p < 4 → ∀ q, q < 4 → ∀ x, x < 2 → ∀ o, o < 2 → cd_ca (cd_F3 p q x o) 512 3 = true := by decide +kernel
theorem cd_q3_77 : ∀ x, x < 2 → ∀ o, o < 2 → cd_fo 11 (cd_ws3 x o) 24 9 = true := by decide +kernel
theorem cd_q3_78 : ∀ p, p < 4 → ∀ q, q < 4 → ∀ x, x < 2 → ∀ o, o < 2 → cd_ca (cd_F3 p q x o) 24 9 = true := by decide +kernel
theorem cd_q3_79 : ∀ x, x < 2 → ∀ o, o < 2 → cd_al (cd_ws3 x o) 6 7 = false := by decide +kernel
theorem cd_q3_80 : ∀ x, x < 2 → ∀ o, o < 2 → cd_fo 11 (cd_ws3 x o) 264 (1 - x) = true := by decide +kernel
theorem cd_q3_81 : ∀ p, p < 4 → ∀ q, q < 4 → ∀ x, x < 2 → ∀ o, o < 2 → cd_ca (cd_F3 p q x o) 264 (1 - x) = true := by decide +kernel
theorem cd_q3_82 : ∀ x, x < 2 → ∀ o, o < 2 → Nat.land 280 (2 ^ 11 - 1) = 280 := by decide +kernel
theorem cd_q3_83 : ∀ x, x < 2 → ∀ o, o < 2 → cd_can (cd_ws3 x o) 280 2 (cd_ws3 x o).length = true := by decide +kernel
theorem cd_q3_84 : ∀ x, x < 2 → ∀ o, o < 2 → cd_enr 11 (cd_hs (cd_ws3 x o) 280 2 (cd_ws3 x o).length) 280 = 3 := by decide +kernel
theorem cd_q3_85 : ∀ p, p < 4 → ∀ q, q < 4 → ∀ x, x < 2 → ∀ o, o < 2 → cd_at (cd_F3 p q x o) 0 2 2 11 = true := by decide +kernel
theorem cd_q3_86 : ∀ p, p < 4 → ∀ q, q < 4 → ∀ x, x < 2 → ∀ o, o < 2 → cd_at (cd_F3 p q x o) 0 4 3 10 = true := by decide +kernel
theorem cd_q3_87 : ∀ p, p < 4 → ∀ q, q < 4 → ∀ x, x < 2 → ∀ o, o < 2 → cd_same (cd_F3 p q x o) 0 4 3 10 = true := by decide +kernel
end
section
theorem cd_way0 {post : Int32 → St0 → Prop} {p q x o : Nat} {ct kn fd hu : Int32} {a1 a2 a3 a4 a5 : Nat → Int32} {mc ms kc ks t : Nat} {x4 : Int32} (ht : t < 4) (e4 : x4 &&& 3 = nI t) (hp : p < 4) (hq : q < 4) (hx : x < 2) (ho : o < 2) (h : cd_J [(3, p, 0), (3, q, 0), (4, 0, 0), (2, x, 2)] (ct, kn, fd, hu, a1, a2, a3, a4, a5)) (hpost : post 1 ()) : wL_lawOf_118 post mc ms x4 (nI x) (nI (cond (Nat.beq o 0) 3 x)) (nI (cond (Nat.beq o 0) x 3)) 1 kc ks ct kn fd hu a1 a2 a3 a4 a5 := by
  unfold wL_lawOf_118
  refine cd_join_new 1 (cond (Nat.beq o 0) x 3) (cond (Nat.beq o 0) 3 x) h rfl rfl rfl (by decide) (show (cond (Nat.beq o 0) x 3) < 4 from (by decide : ∀ x, x < 2 → ∀ o, o < 2 → (cond (Nat.beq o 0) x 3) < 4) x hx o ho) (show (cond (Nat.beq o 0) 3 x) < 4 from (by decide : ∀ x, x < 2 → ∀ o, o < 2 → (cond (Nat.beq o 0) 3 x) < 4) x hx o ho) (show 4 < 11 from by decide) (cd_q0_2 p hp q hq x hx o ho) (fun u h0 => ?_)
  clear h
  have h : cd_J [(3, p, 0), (3, q, 0), (4, 0, 0), (2, x, 2), (1, (cond (Nat.beq o 0) x 3), (cond (Nat.beq o 0) 3 x))] u := h0
  clear h0
  obtain ⟨ct, kn, fd, hu, a1, a2, a3, a4, a5⟩ := u
  refine br_t rfl ?_
  refine cd_not_new 4 h rfl (show 4 < 5 from by decide) (show 2 < 5 from by decide) (show 5 < 11 from by decide) (cd_q0_3 p hp q hq x hx o ho) (fun u h0 => ?_)
  clear h
  have h : cd_J [(3, p, 0), (3, q, 0), (4, 0, 0), (2, x, 2), (1, (cond (Nat.beq o 0) x 3), (cond (Nat.beq o 0) 3 x)), (2, 4, 2)] u := h0
  clear h0
  obtain ⟨ct, kn, fd, hu, a1, a2, a3, a4, a5⟩ := u
  refine br_t rfl ?_
  refine cd_not_new 5 h rfl (show 5 < 6 from by decide) (show 2 < 6 from by decide) (show 6 < 11 from by decide) (cd_q0_4 p hp q hq x hx o ho) (fun u h0 => ?_)
  clear h
  have h : cd_J [(3, p, 0), (3, q, 0), (4, 0, 0), (2, x, 2), (1, (cond (Nat.beq o 0) x 3), (cond (Nat.beq o 0) 3 x)), (2, 4, 2), (2, 5, 2)] u := h0
  clear h0
  obtain ⟨ct, kn, fd, hu, a1, a2, a3, a4, a5⟩ := u
  refine br_t rfl ?_
  have hws := cd_find0 p q hx ho
  have h2 : cd_I (cd_F0 p q x o) (cd_ws0 x o) (ct, kn, fd, hu, a1, a2, a3, a4, a5) := cd_JI h _
  clear h
  have h := h2
  clear h2
  refine cd_w_only (F := (cd_F0 p q x o)) (ws := (cd_ws0 x o)) 0 4 hws h rfl rfl (show 4 < 7 from by decide) (cd_q0_5 x hx o ho) (cd_q0_6 p hp q hq x hx o ho) (fun u h0 => ?_)
  clear h
  obtain ⟨ct, kn, fd, hu, a1, a2, a3, a4, a5⟩ := u
  have h := h0
  clear h0
  refine br_f (by decide) ?_
  refine cd_w_both (F := (cd_F0 p q x o)) (ws := (cd_ws0 x o)) 0 6 hws h rfl rfl (show 6 < 7 from by decide) (cd_q0_7 x hx o ho) (cd_q0_8 p hp q hq x hx o ho) (fun u h0 => ?_)
  clear h
  obtain ⟨ct, kn, fd, hu, a1, a2, a3, a4, a5⟩ := u
  have h := h0
  clear h0
  refine br_f (by decide) ?_
  refine cd_w_only (F := (cd_F0 p q x o)) (ws := (cd_ws0 x o)) 64 4 hws h rfl rfl (show 4 < 7 from by decide) (cd_q0_9 x hx o ho) (cd_q0_10 p hp q hq x hx o ho) (fun u h0 => ?_)
  clear h
  obtain ⟨ct, kn, fd, hu, a1, a2, a3, a4, a5⟩ := u
  have h := h0
  clear h0
  refine br_f (by decide) ?_
  refine cd_w_both (F := (cd_F0 p q x o)) (ws := (cd_ws0 x o)) 16 6 hws h rfl rfl (show 6 < 7 from by decide) (cd_q0_11 x hx o ho) (cd_q0_12 p hp q hq x hx o ho) (fun u h0 => ?_)
  clear h
  obtain ⟨ct, kn, fd, hu, a1, a2, a3, a4, a5⟩ := u
  have h := h0
  clear h0
  refine br_f (by decide) ?_
  refine cd_w_fo1 (F := (cd_F0 p q x o)) (ws := (cd_ws0 x o)) 32 2 true hws h rfl rfl (show 2 < 7 from by decide) (cd_q0_13 x hx o ho) (fun u h0 => ?_)
  clear h
  obtain ⟨ct, kn, fd, hu, a1, a2, a3, a4, a5⟩ := u
  have h := h0
  clear h0
  refine br_t rfl ?_
  refine cd_w_en (F := (cd_F0 p q x o)) (ws := (cd_ws0 x o)) (Nat.lor 32 t) 2 1 hws h (by rw [e4]; exact cd_or 32 t) rfl (show 2 < 7 from by decide) (cd_q0_14 t ht x hx o ho) (cd_q0_15 t ht x hx o ho) (cd_q0_16 t ht x hx o ho) (fun u h0 => ?_)
  clear h
  obtain ⟨ct, kn, fd, hu, a1, a2, a3, a4, a5⟩ := u
  have h := h0
  clear h0
  refine br_t rfl ?_
  refine cd_w_al1 (F := (cd_F0 p q x o)) (ws := (cd_ws0 x o)) 4 6 false hws h rfl rfl (show 4 < 7 from by decide) (show 6 < 7 from by decide) (cd_q0_17 x hx o ho) (fun u h0 => ?_)
  clear h
  obtain ⟨ct, kn, fd, hu, a1, a2, a3, a4, a5⟩ := u
  have h := h0
  clear h0
  refine br_t rfl ?_
  refine cd_w_al1 (F := (cd_F0 p q x o)) (ws := (cd_ws0 x o)) 5 2 true hws h rfl rfl (show 5 < 7 from by decide) (show 2 < 7 from by decide) (cd_q0_18 x hx o ho) (fun u h0 => ?_)
  clear h
  obtain ⟨ct, kn, fd, hu, a1, a2, a3, a4, a5⟩ := u
  have h := h0
  clear h0
  refine br_t rfl ?_
  refine cd_w_fo1 (F := (cd_F0 p q x o)) (ws := (cd_ws0 x o)) (2 ^ x) 4 true hws h (cd_sx hx) rfl (show 4 < 7 from by decide) (cd_q0_19 x hx o ho) (fun u h0 => ?_)
  clear h
  obtain ⟨ct, kn, fd, hu, a1, a2, a3, a4, a5⟩ := u
  have h := h0
  clear h0
  refine br_t rfl ?_
  refine cd_w_fo1 (F := (cd_F0 p q x o)) (ws := (cd_ws0 x o)) 8 4 true hws h rfl rfl (show 4 < 7 from by decide) (cd_q0_20 x hx o ho) (fun u h0 => ?_)
  clear h
  obtain ⟨ct, kn, fd, hu, a1, a2, a3, a4, a5⟩ := u
  have h := h0
  clear h0
  refine br_t rfl ?_
  refine cd_w_ag1 (F := (cd_F0 p q x o)) (ws := (cd_ws0 x o)) 0 4 64 hws h rfl rfl (show 4 < 7 from by decide) (cd_q0_21 x hx o ho) (fun u h0 => ?_)
  clear h
  obtain ⟨ct, kn, fd, hu, a1, a2, a3, a4, a5⟩ := u
  have h := h0
  clear h0
  exact br_t rfl hpost
end
section
theorem cd_init {post : St2 → Prop} {mc ms : Nat} {c k f h : Int32} (h1 : 5 ≤ mc) (h2 : 4129 ≤ ms) (hp : post (0, k, f, h, (fun _ => 0), (fun _ => 0), (fun _ => 0), (fun _ => 0), (fun _ => 0))) : wpX_init post mc ms (c, k, f, h) := by
  unfold wpX_init
  exact ⟨by omega, by omega, by omega, by omega, by omega, by omega, by omega, by omega, by omega, by omega, hp⟩
theorem cd_q_of {p j : Nat} {p1 : Int32} (hp : p < 4) (hj : j < 128) (ej : p1 &&& 127 = nI j) : ((nI p + 1) + ((p1 &&& 127) - (p1 &&& 127) / 3 * 3)) &&& 3 = nI ((p + 1 + j % 3) % 4) := by
  have e : nI j - nI j / 3 * 3 = nI (j % 3) := pk_rem (d := 3) (by omega) (by omega) (by omega)
  rw [ej, e, nI_1, nI_add]
  exact pk_andN (n := p + 1 + j % 3) (by omega) (m := 3) 2 (by decide)
theorem cd_atom_3 {post : Int32 → St2 → Prop} {F : List (Nat × Nat × Nat)} {ct kn fd hu : Int32} {a1 a2 a3 a4 a5 : Nat → Int32} {a p : Nat} {x : Int32} (ok : cd_ok F ct a1 a2 a3) (e : x = nI a) (ha : a < 4) (hl : F.length = 11) (hF : F.getD 0 (3, 0, 0) = (3, p, 0)) (hat : a ≠ p → cd_at F 3 a 0 11 = true) (hp : ∀ r, ¬ 1 < r → post r (ct, kn, fd, hu, a1, a2, a3, a4, a5)) : wpX_atom post (ct, kn, fd, hu, a1, a2, a3, a4, a5) x := by
  by_cases h : a = p
  · refine cd_atom_old (d := 0) ok e ha (by omega) rfl ?_ (hp _ (by decide))
    unfold cd_same cd_K cd_L cd_R
    rw [hF, h]
    show and (Nat.beq 3 3) (and (Nat.beq p p) (Nat.beq 0 0)) = true
    rw [Nat.beq_refl p]
    rfl
  · exact cd_atom_full ok e ha hl (by rw [hl]; exact hat h) (hp _ (by decide))
theorem cd_lawOf {post : Int32 → St0 → Prop} (p0 p1 p2 p3 p4 p5 : Int32) (hpost : post 1 ()) : wpL_lawOf post 1046 16736 () p0 p1 p2 p3 p4 p5 := by
  obtain ⟨p, hp, ep⟩ : ∃ p, p < 4 ∧ p0 &&& 3 = nI p := pk_andE p0 (m := 3) 2 (by decide)
  obtain ⟨j, hj, ej⟩ : ∃ j, j < 128 ∧ p1 &&& 127 = nI j := pk_andE p1 (m := 127) 7 (by decide)
  obtain ⟨w, hw, ew⟩ : ∃ w, w < 4 ∧ p2 &&& 3 = nI w := pk_andE p2 (m := 3) 2 (by decide)
  obtain ⟨o, ho, eo⟩ : ∃ o, o < 2 ∧ p3 &&& 1 = nI o := pk_andE p3 (m := 1) 1 (by decide)
  obtain ⟨t, ht, et⟩ : ∃ t, t < 4 ∧ p4 &&& 3 = nI t := pk_andE p4 (m := 3) 2 (by decide)
  obtain ⟨x, hx, ex⟩ : ∃ x, x < 2 ∧ p5 &&& 1 = nI x := pk_andE p5 (m := 1) 1 (by decide)
  have eq8 := cd_q_of hp hj ej
  obtain ⟨q, hqe⟩ : ∃ q, q = (p + 1 + j % 3) % 4 := ⟨_, rfl⟩
  have hq : q < 4 := by omega
  have hpq : p ≠ q := by omega
  rw [← hqe] at eq8
  clear hqe hj ej
  unfold wpL_lawOf
  refine ⟨by decide, by decide, 1045, 16727, by decide, by decide, cd_init (by decide) (by decide) ?_⟩
  refine nm_r ep ⟨by decide, nm_r eq8 (nm_r ew (nm_r eo (nm_r ex ?_)))⟩
  clear ep eq8 ew eo ex
  refine cd_atom_new (F := []) (a := p) ⟨⟨by decide, rfl, fun i hi => absurd hi (Nat.not_lt_zero i)⟩, rfl⟩ rfl hp (by decide) rfl (fun u h => ?_)
  obtain ⟨ct, kn, fd, hu, a1, a2, a3, a4, a5⟩ := u
  refine br_t rfl ?_
  refine cd_atom_new (F := [(3, p, 0)]) (a := q) h rfl hq (show 1 < 11 from by decide) (cd_qb_1 p hp q hq hpq) (fun u h0 => ?_)
  clear h
  obtain ⟨ct, kn, fd, hu, a1, a2, a3, a4, a5⟩ := u
  refine br_t rfl ?_
  refine cd_falsum_new (F := [(3, p, 0), (3, q, 0)]) h0 (show 2 < 11 from by decide) rfl (fun u h => ?_)
  clear h0
  obtain ⟨ct, kn, fd, hu, a1, a2, a3, a4, a5⟩ := u
  refine br_t rfl ?_
  refine cd_not_new (F := [(3, p, 0), (3, q, 0), (4, 0, 0)]) x h rfl (show x < 3 by omega) (show 2 < 3 from by decide) (show 3 < 11 from by decide) rfl (fun u h0 => ?_)
  clear h
  have h : cd_J [(3, p, 0), (3, q, 0), (4, 0, 0), (2, x, 2)] u := h0
  clear h0
  obtain ⟨ct, kn, fd, hu, a1, a2, a3, a4, a5⟩ := u
  refine br_t rfl ?_
  refine pk_eq w 0 (fun g => ?_) (fun g => pk_eq w 1 (fun g1 => ?_) (fun g1 => pk_eq w 2 (fun g2 => ?_) (fun g2 => ?_)))
  · refine pk_eq o 0 (fun g0 => br_t (by rw [g0]; rfl) ?_) (fun g0 => br_f (nI_ne0 (by omega) (by omega)) ?_)
    · subst g0
      exact cd_way0 (o := 0) ht et hp hq hx (by decide) h hpost
    · have e1 : o = 1 := by omega
      subst e1
      exact cd_way0 (o := 1) ht et hp hq hx (by decide) h hpost
  · refine cd_not_new 3 h rfl (show 3 < 4 from by decide) (show 2 < 4 from by decide) (show 4 < 11 from by decide) (cd_q1_22 p hp q hq x hx o ho) (fun u h0 => ?_)
    clear h
    have h : cd_J [(3, p, 0), (3, q, 0), (4, 0, 0), (2, x, 2), (2, 3, 2)] u := h0
    clear h0
    obtain ⟨ct, kn, fd, hu, a1, a2, a3, a4, a5⟩ := u
    refine br_t rfl ?_
    refine cd_join_new 2 x 4 h rfl rfl rfl (by decide) (show x < 5 from by omega) (show 4 < 5 from by decide) (show 5 < 11 from by decide) (cd_q1_23 p hp q hq x hx o ho) (fun u h0 => ?_)
    clear h
    have h : cd_J [(3, p, 0), (3, q, 0), (4, 0, 0), (2, x, 2), (2, 3, 2), (2, x, 4)] u := h0
    clear h0
    obtain ⟨ct, kn, fd, hu, a1, a2, a3, a4, a5⟩ := u
    refine br_t rfl ?_
    refine cd_join_new 2 4 x h rfl rfl rfl (by decide) (show 4 < 6 from by decide) (show x < 6 from by omega) (show 6 < 11 from by decide) (cd_q1_24 p hp q hq x hx o ho) (fun u h0 => ?_)
    clear h
    have h : cd_J [(3, p, 0), (3, q, 0), (4, 0, 0), (2, x, 2), (2, 3, 2), (2, x, 4), (2, 4, x)] u := h0
    clear h0
    obtain ⟨ct, kn, fd, hu, a1, a2, a3, a4, a5⟩ := u
    refine br_t rfl ?_
    refine cd_not_new 4 h rfl (show 4 < 7 from by decide) (show 2 < 7 from by decide) (show 7 < 11 from by decide) (cd_q1_25 p hp q hq x hx o ho) (fun u h0 => ?_)
    clear h
    have h : cd_J [(3, p, 0), (3, q, 0), (4, 0, 0), (2, x, 2), (2, 3, 2), (2, x, 4), (2, 4, x), (2, 4, 2)] u := h0
    clear h0
    obtain ⟨ct, kn, fd, hu, a1, a2, a3, a4, a5⟩ := u
    refine br_t rfl ?_
    have hws := cd_find1 p q hx ho
    have h2 : cd_I (cd_F1 p q x o) (cd_ws1 x o) (ct, kn, fd, hu, a1, a2, a3, a4, a5) := cd_JI h _
    clear h
    have h := h2
    clear h2
    refine cd_w_both (F := (cd_F1 p q x o)) (ws := (cd_ws1 x o)) 0 5 hws h rfl rfl (show 5 < 8 from by decide) (cd_q1_26 x hx o ho) (cd_q1_27 p hp q hq x hx o ho) (fun u h0 => ?_)
    clear h
    obtain ⟨ct, kn, fd, hu, a1, a2, a3, a4, a5⟩ := u
    have h := h0
    clear h0
    refine br_f (by decide) ?_
    refine cd_w_only (F := (cd_F1 p q x o)) (ws := (cd_ws1 x o)) 0 6 hws h rfl rfl (show 6 < 8 from by decide) (cd_q1_28 x hx o ho) (cd_q1_29 p hp q hq x hx o ho) (fun u h0 => ?_)
    clear h
    obtain ⟨ct, kn, fd, hu, a1, a2, a3, a4, a5⟩ := u
    have h := h0
    clear h0
    refine br_f (by decide) ?_
    refine cd_w_only (F := (cd_F1 p q x o)) (ws := (cd_ws1 x o)) 16 x hws h rfl rfl (show x < 8 from by omega) (cd_q1_30 x hx o ho) (cd_q1_31 p hp q hq x hx o ho) (fun u h0 => ?_)
    clear h
    obtain ⟨ct, kn, fd, hu, a1, a2, a3, a4, a5⟩ := u
    have h := h0
    clear h0
    refine br_f (by decide) ?_
    refine cd_w_al1 (F := (cd_F1 p q x o)) (ws := (cd_ws1 x o)) 3 7 true hws h rfl rfl (show 3 < 8 from by decide) (show 7 < 8 from by decide) (cd_q1_32 x hx o ho) (fun u h0 => ?_)
    clear h
    obtain ⟨ct, kn, fd, hu, a1, a2, a3, a4, a5⟩ := u
    have h := h0
    clear h0
    refine br_t rfl ?_
    refine cd_w_al1 (F := (cd_F1 p q x o)) (ws := (cd_ws1 x o)) 4 x false hws h rfl rfl (show 4 < 8 from by decide) (show x < 8 from by omega) (cd_q1_33 x hx o ho) (fun u h0 => ?_)
    clear h
    obtain ⟨ct, kn, fd, hu, a1, a2, a3, a4, a5⟩ := u
    have h := h0
    clear h0
    refine br_t rfl ?_
    refine cd_w_both (F := (cd_F1 p q x o)) (ws := (cd_ws1 x o)) 128 3 hws h rfl rfl (show 3 < 8 from by decide) (cd_q1_34 x hx o ho) (cd_q1_35 p hp q hq x hx o ho) (fun u h0 => ?_)
    clear h
    obtain ⟨ct, kn, fd, hu, a1, a2, a3, a4, a5⟩ := u
    have h := h0
    clear h0
    refine br_f (by decide) ?_
    refine cd_w_fo1 (F := (cd_F1 p q x o)) (ws := (cd_ws1 x o)) (Nat.lor 8 (2 ^ x)) (1 - x) true hws h (cd_ox 8 hx) (cd_1x hx) (show (1 - x) < 8 from by omega) (cd_q1_36 x hx o ho) (fun u h0 => ?_)
    clear h
    obtain ⟨ct, kn, fd, hu, a1, a2, a3, a4, a5⟩ := u
    have h := h0
    clear h0
    refine br_t rfl ?_
    refine cd_w_en (F := (cd_F1 p q x o)) (ws := (cd_ws1 x o)) (Nat.lor 8 (2 ^ x)) 2 2 hws h (cd_ox 8 hx) rfl (show 2 < 8 from by decide) (cd_q1_37 x hx o ho) (cd_q1_38 x hx o ho) (cd_q1_39 x hx o ho) (fun u h0 => ?_)
    clear h
    obtain ⟨ct, kn, fd, hu, a1, a2, a3, a4, a5⟩ := u
    have h := h0
    clear h0
    refine br_t rfl ?_
    refine cd_w_fo1 (F := (cd_F1 p q x o)) (ws := (cd_ws1 x o)) 24 2 true hws h rfl rfl (show 2 < 8 from by decide) (cd_q1_40 x hx o ho) (fun u h0 => ?_)
    clear h
    obtain ⟨ct, kn, fd, hu, a1, a2, a3, a4, a5⟩ := u
    have h := h0
    clear h0
    exact br_t rfl hpost
  · refine cd_join_new 2 x (1 - x) h rfl rfl (cd_1x hx) (by decide) (show x < 4 from by omega) (show (1 - x) < 4 from by omega) (show 4 < 11 from by decide) (cd_q2_41 p hp q hq x hx o ho) (fun u h0 => ?_)
    clear h
    have h : cd_J [(3, p, 0), (3, q, 0), (4, 0, 0), (2, x, 2), (2, x, (1 - x))] u := h0
    clear h0
    obtain ⟨ct, kn, fd, hu, a1, a2, a3, a4, a5⟩ := u
    refine br_t rfl ?_
    refine cd_join_new 2 4 x h rfl rfl rfl (by decide) (show 4 < 5 from by decide) (show x < 5 from by omega) (show 5 < 11 from by decide) (cd_q2_42 p hp q hq x hx o ho) (fun u h0 => ?_)
    clear h
    have h : cd_J [(3, p, 0), (3, q, 0), (4, 0, 0), (2, x, 2), (2, x, (1 - x)), (2, 4, x)] u := h0
    clear h0
    obtain ⟨ct, kn, fd, hu, a1, a2, a3, a4, a5⟩ := u
    refine br_t rfl ?_
    refine cd_join_new 2 5 x h rfl rfl rfl (by decide) (show 5 < 6 from by decide) (show x < 6 from by omega) (show 6 < 11 from by decide) (cd_q2_43 p hp q hq x hx o ho) (fun u h0 => ?_)
    clear h
    have h : cd_J [(3, p, 0), (3, q, 0), (4, 0, 0), (2, x, 2), (2, x, (1 - x)), (2, 4, x), (2, 5, x)] u := h0
    clear h0
    obtain ⟨ct, kn, fd, hu, a1, a2, a3, a4, a5⟩ := u
    refine br_t rfl ?_
    refine cd_join_new 1 4 3 h rfl rfl rfl (by decide) (show 4 < 7 from by decide) (show 3 < 7 from by decide) (show 7 < 11 from by decide) (cd_q2_44 p hp q hq x hx o ho) (fun u h0 => ?_)
    clear h
    have h : cd_J [(3, p, 0), (3, q, 0), (4, 0, 0), (2, x, 2), (2, x, (1 - x)), (2, 4, x), (2, 5, x), (1, 4, 3)] u := h0
    clear h0
    obtain ⟨ct, kn, fd, hu, a1, a2, a3, a4, a5⟩ := u
    refine br_t rfl ?_
    have hws := cd_find2 p q hx ho
    have h2 : cd_I (cd_F2 p q x o) (cd_ws2 x o) (ct, kn, fd, hu, a1, a2, a3, a4, a5) := cd_JI h _
    clear h
    have h := h2
    clear h2
    refine cd_w_only (F := (cd_F2 p q x o)) (ws := (cd_ws2 x o)) 0 6 hws h rfl rfl (show 6 < 8 from by decide) (cd_q2_45 x hx o ho) (cd_q2_46 p hp q hq x hx o ho) (fun u h0 => ?_)
    clear h
    obtain ⟨ct, kn, fd, hu, a1, a2, a3, a4, a5⟩ := u
    have h := h0
    clear h0
    refine br_f (by decide) ?_
    refine cd_w_only (F := (cd_F2 p q x o)) (ws := (cd_ws2 x o)) 32 x hws h rfl rfl (show x < 8 from by omega) (cd_q2_47 x hx o ho) (cd_q2_48 p hp q hq x hx o ho) (fun u h0 => ?_)
    clear h
    obtain ⟨ct, kn, fd, hu, a1, a2, a3, a4, a5⟩ := u
    have h := h0
    clear h0
    refine br_f (by decide) ?_
    refine cd_w_both (F := (cd_F2 p q x o)) (ws := (cd_ws2 x o)) 8 4 hws h rfl rfl (show 4 < 8 from by decide) (cd_q2_49 x hx o ho) (cd_q2_50 p hp q hq x hx o ho) (fun u h0 => ?_)
    clear h
    obtain ⟨ct, kn, fd, hu, a1, a2, a3, a4, a5⟩ := u
    have h := h0
    clear h0
    refine br_f (by decide) ?_
    refine cd_w_both (F := (cd_F2 p q x o)) (ws := (cd_ws2 x o)) 128 4 hws h rfl rfl (show 4 < 8 from by decide) (cd_q2_51 x hx o ho) (cd_q2_52 p hp q hq x hx o ho) (fun u h0 => ?_)
    clear h
    obtain ⟨ct, kn, fd, hu, a1, a2, a3, a4, a5⟩ := u
    have h := h0
    clear h0
    refine br_f (by decide) ?_
    refine cd_w_fo1 (F := (cd_F2 p q x o)) (ws := (cd_ws2 x o)) 16 3 false hws h rfl rfl (show 3 < 8 from by decide) (cd_q2_53 x hx o ho) (fun u h0 => ?_)
    clear h
    obtain ⟨ct, kn, fd, hu, a1, a2, a3, a4, a5⟩ := u
    have h := h0
    clear h0
    refine br_t rfl ?_
    refine cd_w_ca0 (F := (cd_F2 p q x o)) (s := 16) (c := 3) h.1 rfl rfl (show 3 < 8 from by decide) (cd_q2_54 p hp q hq x hx o ho) ?_
    refine br_t rfl ?_
    refine cd_w_fo1 (F := (cd_F2 p q x o)) (ws := (cd_ws2 x o)) 48 x true hws h rfl rfl (show x < 8 from by omega) (cd_q2_55 x hx o ho) (fun u h0 => ?_)
    clear h
    obtain ⟨ct, kn, fd, hu, a1, a2, a3, a4, a5⟩ := u
    have h := h0
    clear h0
    refine br_t rfl ?_
    refine cd_w_en (F := (cd_F2 p q x o)) (ws := (cd_ws2 x o)) (Nat.lor 16 (2 ^ x)) (1 - x) 2 hws h (cd_ox 16 hx) (cd_1x hx) (show (1 - x) < 8 from by omega) (cd_q2_56 x hx o ho) (cd_q2_57 x hx o ho) (cd_q2_58 x hx o ho) (fun u h0 => ?_)
    clear h
    obtain ⟨ct, kn, fd, hu, a1, a2, a3, a4, a5⟩ := u
    have h := h0
    clear h0
    refine br_t rfl ?_
    refine cd_w_en (F := (cd_F2 p q x o)) (ws := (cd_ws2 x o)) 56 2 2 hws h rfl rfl (show 2 < 8 from by decide) (cd_q2_59 x hx o ho) (cd_q2_60 x hx o ho) (cd_q2_61 x hx o ho) (fun u h0 => ?_)
    clear h
    obtain ⟨ct, kn, fd, hu, a1, a2, a3, a4, a5⟩ := u
    have h := h0
    clear h0
    exact br_t rfl hpost
  · refine cd_not_new (1 - x) h (cd_1x hx) (show (1 - x) < 4 from by omega) (show 2 < 4 from by decide) (show 4 < 11 from by decide) (cd_q3_63 p hp q hq x hx o ho) (fun u h0 => ?_)
    clear h
    have h : cd_J [(3, p, 0), (3, q, 0), (4, 0, 0), (2, x, 2), (2, (1 - x), 2)] u := h0
    clear h0
    obtain ⟨ct, kn, fd, hu, a1, a2, a3, a4, a5⟩ := u
    refine br_t rfl ?_
    refine cd_join_new 0 o (1 - o) h rfl rfl (cd_1x ho) (by decide) (show o < 5 from by omega) (show (1 - o) < 5 from by omega) (show 5 < 11 from by decide) (cd_q3_64 p hp q hq x hx o ho) (fun u h0 => ?_)
    clear h
    have h : cd_J [(3, p, 0), (3, q, 0), (4, 0, 0), (2, x, 2), (2, (1 - x), 2), (0, o, (1 - o))] u := h0
    clear h0
    obtain ⟨ct, kn, fd, hu, a1, a2, a3, a4, a5⟩ := u
    refine br_t rfl ?_
    refine cd_not_new 5 h rfl (show 5 < 6 from by decide) (show 2 < 6 from by decide) (show 6 < 11 from by decide) (cd_q3_65 p hp q hq x hx o ho) (fun u h0 => ?_)
    clear h
    have h : cd_J [(3, p, 0), (3, q, 0), (4, 0, 0), (2, x, 2), (2, (1 - x), 2), (0, o, (1 - o)), (2, 5, 2)] u := h0
    clear h0
    obtain ⟨ct, kn, fd, hu, a1, a2, a3, a4, a5⟩ := u
    refine br_t rfl ?_
    refine cd_join_new 1 3 4 h rfl rfl rfl (by decide) (show 3 < 7 from by decide) (show 4 < 7 from by decide) (show 7 < 11 from by decide) (cd_q3_66 p hp q hq x hx o ho) (fun u h0 => ?_)
    clear h
    have h : cd_J [(3, p, 0), (3, q, 0), (4, 0, 0), (2, x, 2), (2, (1 - x), 2), (0, o, (1 - o)), (2, 5, 2), (1, 3, 4)] u := h0
    clear h0
    obtain ⟨ct, kn, fd, hu, a1, a2, a3, a4, a5⟩ := u
    refine br_t rfl ?_
    refine cd_join_new 1 o (1 - o) h rfl rfl (cd_1x ho) (by decide) (show o < 8 from by omega) (show (1 - o) < 8 from by omega) (show 8 < 11 from by decide) (cd_q3_67 p hp q hq x hx o ho) (fun u h0 => ?_)
    clear h
    have h : cd_J [(3, p, 0), (3, q, 0), (4, 0, 0), (2, x, 2), (2, (1 - x), 2), (0, o, (1 - o)), (2, 5, 2), (1, 3, 4), (1, o, (1 - o))] u := h0
    clear h0
    obtain ⟨ct, kn, fd, hu, a1, a2, a3, a4, a5⟩ := u
    refine br_t rfl ?_
    refine cd_not_new 8 h rfl (show 8 < 9 from by decide) (show 2 < 9 from by decide) (show 9 < 11 from by decide) (cd_q3_68 p hp q hq x hx o ho) (fun u h0 => ?_)
    clear h
    have h : cd_J [(3, p, 0), (3, q, 0), (4, 0, 0), (2, x, 2), (2, (1 - x), 2), (0, o, (1 - o)), (2, 5, 2), (1, 3, 4), (1, o, (1 - o)), (2, 8, 2)] u := h0
    clear h0
    obtain ⟨ct, kn, fd, hu, a1, a2, a3, a4, a5⟩ := u
    refine br_t rfl ?_
    refine cd_join_new 0 4 3 h rfl rfl rfl (by decide) (show 4 < 10 from by decide) (show 3 < 10 from by decide) (show 10 < 11 from by decide) (cd_q3_69 p hp q hq x hx o ho) (fun u h0 => ?_)
    clear h
    have h : cd_J [(3, p, 0), (3, q, 0), (4, 0, 0), (2, x, 2), (2, (1 - x), 2), (0, o, (1 - o)), (2, 5, 2), (1, 3, 4), (1, o, (1 - o)), (2, 8, 2), (0, 4, 3)] u := h0
    clear h0
    obtain ⟨ct, kn, fd, hu, a1, a2, a3, a4, a5⟩ := u
    refine br_t rfl ?_
    have hl : (cd_F3 p q x o).length = 11 := rfl
    have hj : cd_J (cd_F3 p q x o) (ct, kn, fd, hu, a1, a2, a3, a4, a5) := h
    have e8 : (nI q + 1) &&& 3 = nI ((q + 1) % 4) := by
      rw [nI_1]
      exact pk_andN (n := q + 1) (by omega) (m := 3) 2 (by decide)
    refine cd_atom_3 (F := cd_F3 p q x o) (p := p) (a := (q + 1) % 4) hj.1 e8 (by omega) hl rfl (cd_q3_at p hp q hq x hx o ho) (fun r hr => ?_)
    refine br_f hr ?_
    refine br_t (show ct = 11 from hj.1.2.1) ?_
    clear hj e8 hl
    have hws := cd_find3 p q hx ho
    have h2 : cd_I (cd_F3 p q x o) (cd_ws3 x o) (ct, kn, fd, hu, a1, a2, a3, a4, a5) := cd_JI h _
    clear h
    have h := h2
    clear h2
    refine cd_w_both (F := (cd_F3 p q x o)) (ws := (cd_ws3 x o)) 128 6 hws h rfl rfl (show 6 < 11 from by decide) (cd_q3_70 x hx o ho) (cd_q3_71 p hp q hq x hx o ho) (fun u h0 => ?_)
    clear h
    obtain ⟨ct, kn, fd, hu, a1, a2, a3, a4, a5⟩ := u
    have h := h0
    clear h0
    refine br_f (by decide) ?_
    refine cd_w_only (F := (cd_F3 p q x o)) (ws := (cd_ws3 x o)) 64 7 hws h rfl rfl (show 7 < 11 from by decide) (cd_q3_72 x hx o ho) (cd_q3_73 p hp q hq x hx o ho) (fun u h0 => ?_)
    clear h
    obtain ⟨ct, kn, fd, hu, a1, a2, a3, a4, a5⟩ := u
    have h := h0
    clear h0
    refine br_f (by decide) ?_
    refine cd_w_al1 (F := (cd_F3 p q x o)) (ws := (cd_ws3 x o)) 9 10 true hws h rfl rfl (show 9 < 11 from by decide) (show 10 < 11 from by decide) (cd_q3_74 x hx o ho) (fun u h0 => ?_)
    clear h
    obtain ⟨ct, kn, fd, hu, a1, a2, a3, a4, a5⟩ := u
    have h := h0
    clear h0
    refine br_t rfl ?_
    refine cd_w_both (F := (cd_F3 p q x o)) (ws := (cd_ws3 x o)) 512 3 hws h rfl rfl (show 3 < 11 from by decide) (cd_q3_75 x hx o ho) (cd_q3_76 p hp q hq x hx o ho) (fun u h0 => ?_)
    clear h
    obtain ⟨ct, kn, fd, hu, a1, a2, a3, a4, a5⟩ := u
    have h := h0
    clear h0
    refine br_f (by decide) ?_
    refine cd_w_both (F := (cd_F3 p q x o)) (ws := (cd_ws3 x o)) 24 9 hws h rfl rfl (show 9 < 11 from by decide) (cd_q3_77 x hx o ho) (cd_q3_78 p hp q hq x hx o ho) (fun u h0 => ?_)
    clear h
    obtain ⟨ct, kn, fd, hu, a1, a2, a3, a4, a5⟩ := u
    have h := h0
    clear h0
    refine br_f (by decide) ?_
    refine cd_w_al1 (F := (cd_F3 p q x o)) (ws := (cd_ws3 x o)) 6 7 false hws h rfl rfl (show 6 < 11 from by decide) (show 7 < 11 from by decide) (cd_q3_79 x hx o ho) (fun u h0 => ?_)
    clear h
    obtain ⟨ct, kn, fd, hu, a1, a2, a3, a4, a5⟩ := u
    have h := h0
    clear h0
    refine br_t rfl ?_
    refine cd_w_both (F := (cd_F3 p q x o)) (ws := (cd_ws3 x o)) 264 (1 - x) hws h rfl (cd_1x hx) (show (1 - x) < 11 from by omega) (cd_q3_80 x hx o ho) (cd_q3_81 p hp q hq x hx o ho) (fun u h0 => ?_)
    clear h
    obtain ⟨ct, kn, fd, hu, a1, a2, a3, a4, a5⟩ := u
    have h := h0
    clear h0
    refine br_f (by decide) ?_
    refine cd_w_en (F := (cd_F3 p q x o)) (ws := (cd_ws3 x o)) 280 2 3 hws h rfl rfl (show 2 < 11 from by decide) (cd_q3_82 x hx o ho) (cd_q3_83 x hx o ho) (cd_q3_84 x hx o ho) (fun u h0 => ?_)
    clear h
    obtain ⟨ct, kn, fd, hu, a1, a2, a3, a4, a5⟩ := u
    have h := h0
    clear h0
    refine br_t rfl ?_
    refine cd_join_full (F := (cd_F3 p q x o)) 0 2 2 h.1 rfl rfl rfl (by decide) (show 2 < 11 from by decide) (show 2 < 11 from by decide) rfl (cd_q3_85 p hp q hq x hx o ho) ?_
    refine br_t rfl ?_
    refine cd_join_old (F := (cd_F3 p q x o)) 0 4 3 10 h.1 rfl rfl rfl (by decide) (show 4 < 11 from by decide) (show 3 < 11 from by decide) (show 10 < 11 from by decide) (cd_q3_86 p hp q hq x hx o ho) (cd_q3_87 p hp q hq x hx o ho) ?_
    exact br_t rfl hpost
end
section
theorem cd_cell {post : Int32 → Prop} {L : Nat} {xs : Nat → Int32} (k : Nat) {x : Int32} (e : x = nI k) (hk : k < 6) (hL : L ≤ 6) (hp : ∀ v, post v) : wpL_cellAt post L xs () x := by
  subst e
  exact pk_le L k (fun _ => hp 0) (fun g => ⟨pk_in k L g, hp _⟩)
theorem i_vc (xs : Nat → Int32) (L : Nat) (hL : L ≤ 6) : wpL_law (fun r => r = 1) L xs := by
  unfold wpL_law
  refine cd_cell 0 rfl (by decide) hL (fun v0 => cd_cell 1 rfl (by decide) hL (fun v1 => cd_cell 2 rfl (by decide) hL (fun v2 => cd_cell 3 rfl (by decide) hL (fun v3 => cd_cell 4 rfl (by decide) hL (fun v4 => cd_cell 5 rfl (by decide) hL (fun v5 => ?_))))))
  exact ⟨1046, 16736, by decide, by decide, cd_lawOf v0 v1 v2 v3 v4 v5 rfl⟩
end
