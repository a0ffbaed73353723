section
/-! a reward by its code n (0 .. 40): n - 20; powers of four; right sides; bits of a policy -/
def qv_R (n : Nat) : Int32 := nI n - 20
def qv_D (e : Nat) : Int64 := lN (4 ^ e)
def qv_B (n e : Nat) : Int64 := 2 * (qv_R n).toInt64 * qv_D e
def qv_b (m q : Nat) : Nat := m / 2 ^ q % 2
/-- the policy m with action a in state q -/
def qv_put (m q a : Nat) : Nat := m - qv_b m q * 2 ^ q + a * 2 ^ q
theorem qv_b2 (m q : Nat) : qv_b m q < 2 := Nat.mod_lt _ (by decide)
theorem qv_bit : ∀ m, m < 16 → ∀ q, q < 4 → (nI m >>> (nI q &&& 31)) &&& 1 = nI (qv_b m q) := by decide +kernel
theorem qv_putE : ∀ m, m < 16 → ∀ q, q < 4 → ∀ a, a < 2 → (nI m &&& (((1 : Int32) <<< (nI q &&& 31)) ^^^ (-1))) ||| (nI a <<< (nI q &&& 31)) = nI (qv_put m q a) := by decide +kernel
theorem qv_put16 : ∀ m, m < 16 → ∀ q, q < 4 → ∀ a, a < 2 → qv_put m q a < 16 := by decide +kernel
theorem qv_putB : ∀ m, m < 16 → ∀ q, q < 4 → ∀ a, a < 2 → ∀ j, j < 4 → qv_b (qv_put m q a) j = if j = q then a else qv_b m j := by decide +kernel
theorem qv_D0 : qv_D 0 = 1 := by decide +kernel
theorem qv_Dne : ∀ k, k < 5 → ¬ qv_D k = 0 := by decide +kernel
theorem qv_redD : ∀ e, e < 5 → ∀ k, k < 4 → (qv_D e * qv_D (k + 1) - 0) / qv_D k = qv_D (e + 1) := by decide +kernel
theorem qv_redB : ∀ n, n < 41 → ∀ e, e < 5 → ∀ k, k < 4 → (qv_B n e * qv_D (k + 1) - 0) / qv_D k = qv_B n (e + 1) := by decide +kernel
theorem qv_red0 : ∀ k, k < 4 → (0 * qv_D (k + 1) - 0) / qv_D k = 0 := by decide +kernel
theorem qv_fD : (8 : Int64) - (4 : Int32).toInt64 = qv_D 1 := by decide +kernel
theorem qv_f0 : (0 : Int64) - (0 : Int32).toInt64 = 0 := by decide +kernel
theorem qv_fB : ∀ n, n < 41 → 8 * (qv_R n).toInt64 = qv_B n 1 := by decide +kernel
/-! the common divisor of 512 R and 256 is 256 -/
theorem qv_gp : ∀ n, n < 41 → 0 ≤ qv_B n 4 → qv_B n 4 = 0 ∨ (¬ qv_B n 4 = 0 ∧ qv_D 4 - qv_D 4 / qv_B n 4 * qv_B n 4 = qv_D 4 ∧ qv_B n 4 - qv_B n 4 / qv_D 4 * qv_D 4 = 0) := by decide +kernel
theorem qv_gm : ∀ n, n < 41 → ¬ 0 ≤ qv_B n 4 → ¬ -qv_B n 4 = 0 ∧ qv_D 4 - qv_D 4 / -qv_B n 4 * -qv_B n 4 = qv_D 4 ∧ -qv_B n 4 - -qv_B n 4 / qv_D 4 * qv_D 4 = 0 := by decide +kernel
theorem qv_top : ∀ n, n < 41 → (qv_B n 4 / qv_D 4).toInt32 = 2 * qv_R n := by decide +kernel
theorem qv_bot : (qv_D 4 / qv_D 4).toInt32 = 1 := by decide +kernel
/-! gains against values -/
theorem qv_gE : ∀ n, n < 41 → ∀ k, k < 41 → ((8 * (qv_R n).toInt64) * qv_D 4 + 4 * qv_B k 4 = 8 * qv_B k 4 ↔ n = k) := by decide +kernel
theorem qv_gL : ∀ n, n < 41 → ∀ k, k < 41 → (8 * qv_B k 4 < (8 * (qv_R n).toInt64) * qv_D 4 + 4 * qv_B k 4 ↔ k < n) := by decide +kernel
/-! indices -/
theorem qv_ix9 (s a : Nat) : 4 * (2 * nI s + nI a) + nI s = nI (4 * (2 * s + a) + s) := by
  rw [show (4 : Int32) = nI 4 from rfl, show (2 : Int32) = nI 2 from rfl, pk_mul, nI_add, pk_mul, nI_add]
theorem qv_ix5 (r c : Nat) : 5 * nI r + nI c = nI (5 * r + c) := by
  rw [show (5 : Int32) = nI 5 from rfl, pk_mul, nI_add]
theorem qv_ix54 (r : Nat) : 5 * nI r + 4 = nI (5 * r + 4) := by
  rw [show (5 : Int32) = nI 5 from rfl, show (4 : Int32) = nI 4 from rfl, pk_mul, nI_add]
theorem qv_ix4 (i t : Nat) : 4 * nI i + nI t = nI (4 * i + t) := by
  rw [show (4 : Int32) = nI 4 from rfl, pk_mul, nI_add]
theorem qv_ix2 (s a : Nat) : 2 * nI s + nI a = nI (2 * s + a) := by
  rw [show (2 : Int32) = nI 2 from rfl, pk_mul, nI_add]
/-! the pictures: shares, rewards, rows -/
def qv_S (a2 : Nat → Int32) : Prop := ∀ i t, i < 8 → t < 4 → a2 (4 * i + t) = if t = i / 2 then 4 else 0
def qv_W (f : Nat → Nat) (a1 : Nat → Int32) : Prop := ∀ j, j < 8 → f j < 41 ∧ a1 j = qv_R (f j)
/-- the code of the reward of state q under policy m -/
def qv_g (f : Nat → Nat) (m q : Nat) : Nat := f (2 * q + qv_b m q)
theorem qv_g41 {f : Nat → Nat} {a1 : Nat → Int32} (h : qv_W f a1) (m : Nat) {q : Nat} (hq : q < 4) : qv_g f m q < 41 := by
  have hb := qv_b2 m q
  exact (h (2 * q + qv_b m q) (by omega)).1
/-- the entry of row r, column c: reward code n, exponent e -/
def qv_e (n e r c : Nat) : Int64 := if c = 4 then qv_B n e else if c = r then qv_D e else 0
def qv_M (g e : Nat → Nat) (a : Nat → Int64) : Prop := ∀ r c, r < 4 → c < 5 → a (5 * r + c) = qv_e (g r) (e r) r c
theorem qv_Mc {g e e' : Nat → Nat} {a : Nat → Int64} (h : qv_M g e a) (he : ∀ r, r < 4 → e r = e' r) : qv_M g e' a := by
  intro r c hr hc
  rw [h r c hr hc, he r hr]
end
section
/-! the constructor -/
def qv_I (k : Nat) (x : Nat → Int32) : Prop := ∀ i t, i < 8 → t < 4 → x (4 * i + t) = if t = i / 2 ∧ i < k then 4 else 0
theorem qv_I0 : qv_I 0 (fun _ => 0) := by
  intro i t hi ht
  rw [if_neg (by omega)]
theorem qv_Is {s a : Nat} {x : Nat → Int32} (hs : s < 4) (ha : a < 2) (h : qv_I (2 * s + a) x) : qv_I (2 * s + a + 1) (upd x (4 * (2 * s + a) + s) 4) := by
  intro i t hi ht
  by_cases e : 4 * i + t = 4 * (2 * s + a) + s
  · have ei : i = 2 * s + a := by omega
    have et : t = s := by omega
    rw [e, pk_us, if_pos ⟨by omega, by omega⟩]
  · rw [pk_un e, h i t hi ht]
    have q : (t = i / 2 ∧ i < 2 * s + a) ↔ (t = i / 2 ∧ i < 2 * s + a + 1) := by omega
    simp only [q]
theorem qv_IS {x : Nat → Int32} (h : qv_I 8 x) : qv_S x := by
  intro i t hi ht
  rw [h i t hi ht]
  have q : (t = i / 2 ∧ i < 8) ↔ t = i / 2 := by omega
  simp only [q]
theorem qv_init {post : St2 → Prop} {mc ms : Nat} (h7 : 7 ≤ mc) (h76 : 76 ≤ ms)
    (H : ∀ a2, qv_S a2 → post (0, 0, 0, 0, 0, (fun _ => 0), a2, (fun _ => 0), (fun _ => 0), (fun _ => 0), (fun _ => 0), (fun _ => 0))) :
    wpX_init post mc ms (0, 0, 0, 0, 0) := by
  refine ⟨by omega, by omega, by omega, by omega, by omega, by omega, by omega, by omega, by omega, by omega, by omega, by omega, by omega, by omega, ?_⟩
  refine pk_loop (fun n i s => wX_init_58 post mc ms 7 76 0 0 0 0 0 n (nI i) (fun _ => 0) s (fun _ => 0) (fun _ => 0) (fun _ => 0) (fun _ => 0) (fun _ => 0)) (fun i s => qv_I (2 * i) s) 4 0 (fun _ => 0) (by omega) qv_I0 ?_ ?_
  · intro n s h
    exact pk_le 4 4 (fun _ => H s (qv_IS h)) (fun z => absurd z (by omega))
  · intro n i s hi h hw
    refine pk_le 4 i (fun z => absurd z (by omega)) (fun _ => ?_)
    refine pk_loop (fun n' j s' => wX_init_65 post mc ms (wX_init_58 post mc ms 7 76 0 0 0 0 0 n) (nI i) 7 76 0 0 0 0 0 n' (nI j) (fun _ => 0) s' (fun _ => 0) (fun _ => 0) (fun _ => 0) (fun _ => 0) (fun _ => 0)) (fun j s' => qv_I (2 * i + j) s') 2 0 s (by omega) h ?_ ?_
    · intro n' s' h'
      exact pk_le 2 2 (fun _ => nm_r (nI_1 i) (hw s' h')) (fun z => absurd z (by omega))
    · intro n' j s' hj h' hw'
      refine pk_le 2 j (fun z => absurd z (by omega)) (fun _ => ⟨pk_in (4 * (2 * i + j) + i) 32 (by omega) (qv_ix9 i j), ?_⟩)
      rw [qv_ix9 i j, nI_clamp (by omega)]
      exact nm_e (nm_r (nI_1 j) (hw' _ (qv_Is hi hj h')))
/-! filling the rows -/
def qv_F (g : Nat → Nat) (k : Nat) (a : Nat → Int64) : Prop := ∀ r c, r < 4 → c < 5 → 5 * r + c < k → a (5 * r + c) = qv_e (g r) 1 r c
theorem qv_Fs {g : Nat → Nat} {r c : Nat} {a : Nat → Int64} {v : Int64} (hc : c < 5) (h : qv_F g (5 * r + c) a) (hv : v = qv_e (g r) 1 r c) : qv_F g (5 * r + c + 1) (vp_updL a (5 * r + c) v) := by
  intro r' c' hr' hc' hk
  by_cases e : 5 * r' + c' = 5 * r + c
  · have er : r' = r := by omega
    have ec : c' = c := by omega
    rw [er, ec, pk_uLs, hv]
  · rw [pk_uLn e, h r' c' hr' hc' (by omega)]
theorem qv_49 {post : St2 → Prop} {J2 J20 : Int32 → (Nat → Int32) → (Nat → Int32) → (Nat → Int64) → (Nat → Int64) → (Nat → Int64) → (Nat → Int64) → (Nat → Int32) → Prop} {x1 : Int32} {z0 : Int64} {c0 c1 c4 : Int64} {c2 c3 : Int32} {a1 a2 a7 : Nat → Int32} {a3 a4 a5 a6 : Nat → Int64} {g : Nat → Nat} {r b c : Nat}
    (hr : r < 4) (hb : b < 2) (hc : c < 4) (hS : qv_S a2) (hF : qv_F g (5 * r + c) a3) (hz : z0 = if r = c then 8 else 0)
    (H : ∀ a, qv_F g (5 * r + c + 1) a → J20 (nI (c + 1)) a1 a2 a a4 a5 a6 a7) :
    wX_fillRows_49 post J2 J20 x1 (nI r) (nI (2 * r + b)) (nI c) z0 (5 * nI r + nI c) c0 c1 c2 c3 c4 a1 a2 a3 a4 a5 a6 a7 := by
  refine ⟨pk_in (4 * (2 * r + b) + c) 32 (by omega) (qv_ix4 _ _), pk_in (5 * r + c) 20 (by omega) (qv_ix5 _ _), ?_⟩
  rw [qv_ix4, qv_ix5, nI_clamp (show 5 * r + c < 2 ^ 31 by omega), nI_clamp (show 4 * (2 * r + b) + c < 2 ^ 31 by omega)]
  refine nm_e (nm_r (nI_1 c) (H _ (qv_Fs (by omega) hF ?_)))
  rw [hS (2 * r + b) c (by omega) hc, hz]
  unfold qv_e
  rw [if_neg (show ¬ c = 4 by omega)]
  by_cases e : r = c
  · rw [if_pos e, if_pos (show c = (2 * r + b) / 2 by omega), if_pos e.symm]
    exact qv_fD
  · rw [if_neg e, if_neg (show ¬ c = (2 * r + b) / 2 by omega), if_neg (fun z => e z.symm)]
    exact qv_f0
theorem qv_fill {post : St2 → Prop} {c0 c1 c4 : Int64} {c2 c3 : Int32} {a1 a2 a7 : Nat → Int32} {a3 a4 a5 a6 : Nat → Int64} {f : Nat → Nat} {m : Nat}
    (hm : m < 16) (hW : qv_W f a1) (hS : qv_S a2)
    (H : ∀ a, qv_M (qv_g f m) (fun _ => 1) a → post (c0, c1, c2, c3, c4, a1, a2, a, a4, a5, a6, a7)) :
    wpX_fillRows post (c0, c1, c2, c3, c4, a1, a2, a3, a4, a5, a6, a7) (nI m) := by
  refine pk_loop (fun n i s => wX_fillRows_2 post (nI m) c0 c1 c2 c3 c4 n (nI i) a1 a2 s a4 a5 a6 a7) (fun i s => qv_F (qv_g f m) (5 * i) s) 4 0 a3 (by omega) (fun r c _ _ h => absurd h (by omega)) ?_ ?_
  · intro n s h
    exact pk_le 4 4 (fun _ => H s (fun r c hr hc => h r c hr hc (by omega))) (fun z => absurd z (by omega))
  · intro n i s hi h hw
    have hb := qv_b2 m i
    refine pk_le 4 i (fun z => absurd z (by omega)) (fun _ => ?_)
    rw [qv_bit m hm i hi, qv_ix2]
    refine nm_e ?_
    refine pk_loop (fun n' j s' => wX_fillRows_20 post (wX_fillRows_2 post (nI m) c0 c1 c2 c3 c4 n) (nI m) (nI i) (nI (2 * i + qv_b m i)) c0 c1 c2 c3 c4 n' (nI j) a1 a2 s' a4 a5 a6 a7) (fun j s' => qv_F (qv_g f m) (5 * i + j) s') 4 0 s (by omega) h ?_ ?_
    · intro n' s' h'
      refine pk_le 4 4 (fun _ => ⟨pk_in (2 * i + qv_b m i) 8 (by omega), pk_in (5 * i + 4) 20 (by omega) (qv_ix54 i), ?_⟩) (fun z => absurd z (by omega))
      rw [qv_ix54, nI_clamp (show 5 * i + 4 < 2 ^ 31 by omega), nI_clamp (show 2 * i + qv_b m i < 2 ^ 31 by omega)]
      refine nm_e (nm_r (nI_1 i) (hw _ (qv_Fs (by omega) h' ?_)))
      obtain ⟨w1, w2⟩ := hW (2 * i + qv_b m i) (by omega)
      rw [w2, qv_fB _ w1]
      rfl
    · intro n' j s' hj h' hw'
      refine pk_le 4 j (fun z => absurd z (by omega)) (fun _ => ?_)
      exact pk_eq i j (fun e => qv_49 hi hb hj hS h' (by rw [if_pos e]) hw') (fun e => qv_49 hi hb hj hS h' (by rw [if_neg e]) hw')
/-! one row reduced: it is multiplied by four -/
def qv_C (g e : Nat → Nat) (r c : Nat) (a : Nat → Int64) : Prop := ∀ r' c', r' < 4 → c' < 5 → a (5 * r' + c') = if r' = r ∧ c' < c then qv_e (g r') (e r' + 1) r' c' else qv_e (g r') (e r') r' c'
theorem qv_Cs {g e : Nat → Nat} {r c : Nat} {a : Nat → Int64} {v : Int64} (hc : c < 5) (h : qv_C g e r c a) (hv : v = qv_e (g r) (e r + 1) r c) : qv_C g e r (c + 1) (vp_updL a (5 * r + c) v) := by
  intro r' c' hr' hc'
  by_cases i : 5 * r' + c' = 5 * r + c
  · have er : r' = r := by omega
    have ec : c' = c := by omega
    rw [er, ec, pk_uLs, hv, if_pos ⟨rfl, by omega⟩]
  · rw [pk_uLn i, h r' c' hr' hc']
    have q : (r' = r ∧ c' < c) ↔ (r' = r ∧ c' < c + 1) := by omega
    simp only [q]
theorem qv_ev {n e r c k : Nat} (hn : n < 41) (he : e < 5) (hk : k < 4) (x : Int64) : (qv_e n e r c * qv_D (k + 1) - 0 * x) / qv_D k = qv_e n (e + 1) r c := by
  rw [Int64.zero_mul]
  unfold qv_e
  by_cases h4 : c = 4
  · rw [if_pos h4, if_pos h4]
    exact qv_redB n hn e he k hk
  · rw [if_neg h4, if_neg h4]
    by_cases h5 : c = r
    · rw [if_pos h5, if_pos h5]
      exact qv_redD e he k hk
    · rw [if_neg h5, if_neg h5]
      exact qv_red0 k hk
theorem qv_reduce {post : St2 → Prop} {c0 c1 c4 : Int64} {c2 c3 : Int32} {a1 a2 a7 : Nat → Int32} {a3 a4 a5 a6 : Nat → Int64} {g e : Nat → Nat} {r k : Nat}
    (hr : r < 4) (hk : k < 4) (hrk : r ≠ k) (hg : g r < 41) (he : e r < 5) (hek : e k = k + 1) (hM : qv_M g e a3)
    (H : ∀ a, qv_M g (fun i => if i = r then e r + 1 else e i) a → post (c0, c1, c2, c3, c4, a1, a2, a, a4, a5, a6, a7)) :
    wpX_reduce post (c0, c1, c2, c3, c4, a1, a2, a3, a4, a5, a6, a7) (nI r) (nI k) (qv_D k) := by
  refine ⟨pk_in (5 * k + k) 20 (by omega) (qv_ix5 _ _), ?_⟩
  rw [qv_ix5, nI_clamp (by omega)]
  have e5 : a3 (5 * k + k) = qv_D (k + 1) := by
    rw [hM k k hk (by omega), hek]
    unfold qv_e
    rw [if_neg (by omega), if_pos rfl]
  refine nm_r e5 ⟨pk_in (5 * r + k) 20 (by omega) (qv_ix5 _ _), ?_⟩
  rw [qv_ix5, nI_clamp (by omega)]
  have e7 : a3 (5 * r + k) = 0 := by
    rw [hM r k hr (by omega)]
    unfold qv_e
    rw [if_neg (by omega), if_neg (fun z => hrk z.symm)]
  refine nm_r e7 ?_
  refine pk_loop (fun n c s => wX_reduce_27 post (nI r) (nI k) (qv_D k) (qv_D (k + 1)) 0 c0 c1 c2 c3 c4 n (nI c) a1 a2 s a4 a5 a6 a7) (fun c s => qv_C g e r c s) 5 0 a3 (by omega) ?_ ?_ ?_
  · intro r' c' hr' hc'
    rw [hM r' c' hr' hc', if_neg (by omega)]
  · intro n s h
    refine pk_le 5 5 (fun _ => H s (fun r' c' hr' hc' => ?_)) (fun z => absurd z (by omega))
    rw [h r' c' hr' hc']
    by_cases i : r' = r
    · rw [if_pos ⟨i, hc'⟩]
      dsimp only
      rw [if_pos i, i]
    · rw [if_neg (fun z => i z.1)]
      dsimp only
      rw [if_neg i]
  · intro n c s hc h hw
    refine pk_le 5 c (fun z => absurd z (by omega)) (fun _ => ⟨pk_in (5 * r + c) 20 (by omega) (qv_ix5 _ _), pk_in (5 * k + c) 20 (by omega) (qv_ix5 _ _), qv_Dne k (by omega), pk_in (5 * r + c) 20 (by omega) (qv_ix5 _ _), ?_⟩)
    rw [qv_ix5, qv_ix5, nI_clamp (show 5 * r + c < 2 ^ 31 by omega)]
    refine nm_e (nm_r (nI_1 c) (hw _ (qv_Cs hc h ?_)))
    rw [h r c hr hc, if_neg (by omega)]
    exact qv_ev hg he hk _
end
section
/-! exponents of the rows inside stage k, rows below r done -/
def qv_x (k r i : Nat) : Nat := if i < k then (if i < r then k + 1 else k) else if i = k then k + 1 else (if i < r then k + 2 else k + 1)
theorem qv_x0 (i : Nat) : 1 = qv_x 0 0 i := by
  unfold qv_x
  (repeat' split) <;> omega
theorem qv_xk (k r : Nat) : qv_x k r k = k + 1 := by
  unfold qv_x
  (repeat' split) <;> omega
theorem qv_x4 {i : Nat} (h : i < 4) : qv_x 4 0 i = 4 := by
  unfold qv_x
  (repeat' split) <;> omega
theorem qv_xr {k r : Nat} (hk : k < 4) : qv_x k r r < 5 + (if r = k then 1 else 0) ∧ (r ≠ k → qv_x k r r < 5) := by
  unfold qv_x
  constructor
  · (repeat' split) <;> omega
  · intro h
    (repeat' split) <;> omega
theorem qv_xn {k i : Nat} (hi : i < 4) : qv_x k 4 i = qv_x (k + 1) 0 i := by
  unfold qv_x
  (repeat' split) <;> omega
theorem qv_xe {k i : Nat} : qv_x k k i = qv_x k (k + 1) i := by
  unfold qv_x
  (repeat' split) <;> omega
theorem qv_xs {k r i : Nat} (h : r ≠ k) : (if i = r then qv_x k r r + 1 else qv_x k r i) = qv_x k (r + 1) i := by
  unfold qv_x
  (repeat' split) <;> omega
/-! evaluate -/
theorem qv_74 {post : St2 → Prop} {c0 c1 c4 : Int64} {c2 c3 : Int32} {a1 a2 a7 : Nat → Int32} {a3 a4 a5 a6 : Nat → Int64} {g : Nat → Nat}
    (hM : ∀ q, q < 4 → a3 (5 * q + 4) = qv_B (g q) 4)
    (H : ∀ a, (∀ q, q < 4 → a q = qv_B (g q) 4) → post (c0, c1, c2, c3, c4, a1, a2, a3, a, a5, a6, a7)) :
    ∃ n, wX_evaluate_74 post c0 c1 c2 c3 c4 n 0 a1 a2 a3 a4 a5 a6 a7 := by
  refine pk_loop (fun n i s => wX_evaluate_74 post c0 c1 c2 c3 c4 n (nI i) a1 a2 a3 s a5 a6 a7) (fun i s => ∀ q, q < i → s q = qv_B (g q) 4) 4 0 a4 (by omega) (fun q h => absurd h (by omega)) ?_ ?_
  · intro n s h
    exact pk_le 4 4 (fun _ => H s h) (fun z => absurd z (by omega))
  · intro n i s hi h hw
    refine pk_le 4 i (fun z => absurd z (by omega)) (fun _ => ⟨pk_in (5 * i + 4) 20 (by omega) (qv_ix54 i), pk_in i 4 hi, ?_⟩)
    rw [qv_ix54, nI_clamp (show 5 * i + 4 < 2 ^ 31 by omega), nI_clamp (show i < 2 ^ 31 by omega)]
    refine nm_e (nm_r (nI_1 i) (hw _ (fun q hq => ?_)))
    by_cases e : q = i
    · rw [e, pk_uLs, hM i hi]
    · rw [pk_uLn e, h q (by omega)]
theorem qv_19 {post : St2 → Prop} {J10 : Int64 → Int32 → Int64 → Int64 → Int32 → Int32 → Int64 → (Nat → Int32) → (Nat → Int32) → (Nat → Int64) → (Nat → Int64) → (Nat → Int64) → (Nat → Int64) → (Nat → Int32) → Prop} {c0 c1 c4 : Int64} {c2 c3 : Int32} {a1 a2 a7 : Nat → Int32} {a3 a4 a5 a6 : Nat → Int64} {g : Nat → Nat} {k : Nat}
    (hk : k < 4) (hg : ∀ q, q < 4 → g q < 41) (hM : qv_M g (qv_x k 0) a3)
    (H : ∀ a, qv_M g (qv_x (k + 1) 0) a → J10 (qv_D (k + 1)) (nI (k + 1)) c0 c1 c2 c3 c4 a1 a2 a a4 a5 a6 a7) :
    ∃ n, wX_evaluate_19 post J10 (qv_D k) (nI k) n 0 c0 c1 c2 c3 c4 a1 a2 a3 a4 a5 a6 a7 := by
  refine pk_loop (fun n r s => wX_evaluate_19 post J10 (qv_D k) (nI k) n (nI r) c0 c1 c2 c3 c4 a1 a2 s a4 a5 a6 a7) (fun r s => qv_M g (qv_x k r) s) 4 0 a3 (by omega) hM ?_ ?_
  · intro n s h
    refine pk_le 4 4 (fun _ => ⟨pk_in (5 * k + k) 20 (by omega) (qv_ix5 k k), ?_⟩) (fun z => absurd z (by omega))
    rw [qv_ix5, nI_clamp (show 5 * k + k < 2 ^ 31 by omega)]
    have e : s (5 * k + k) = qv_D (k + 1) := by
      rw [h k k hk (by omega), qv_xk]
      unfold qv_e
      rw [if_neg (by omega), if_pos rfl]
    exact nm_r e (nm_r (nI_1 k) (H s (qv_Mc h (fun r hr => qv_xn hr))))
  · intro n r s hr h hw
    refine pk_le 4 r (fun z => absurd z (by omega)) (fun _ => ?_)
    refine pk_eq r k (fun e => nm_r (nI_1 r) (hw s (qv_Mc h (fun i _ => ?_)))) (fun e => ?_)
    · rw [e]
      exact qv_xe
    · refine qv_reduce hr hk e (hg r hr) ((qv_xr hk).2 e) (qv_xk k r) h (fun a ha => ?_)
      exact nm_r (nI_1 r) (hw a (qv_Mc ha (fun i _ => qv_xs e)))
theorem qv_evaluate {post : St2 → Prop} {c0 c1 c4 : Int64} {c2 c3 : Int32} {a1 a2 a7 : Nat → Int32} {a3 a4 a5 a6 : Nat → Int64} {f : Nat → Nat} {m : Nat}
    (hm : m < 16) (hW : qv_W f a1) (hS : qv_S a2)
    (H : ∀ a3 a4, (∀ q, q < 4 → a4 q = qv_B (qv_g f m q) 4) → post (qv_D 4, c1, c2, c3, c4, a1, a2, a3, a4, a5, a6, a7)) :
    wpX_evaluate post (c0, c1, c2, c3, c4, a1, a2, a3, a4, a5, a6, a7) (nI m) := by
  refine qv_fill hm hW hS (fun a hM => ?_)
  have hg : ∀ q, q < 4 → qv_g f m q < 41 := fun q hq => qv_g41 hW m hq
  have L : ∃ n, wX_evaluate_10 post n (qv_D 0) (nI 0) c0 c1 c2 c3 c4 a1 a2 a a4 a5 a6 a7 := by
    refine pk_loop (fun n k s => wX_evaluate_10 post n (qv_D k) (nI k) c0 c1 c2 c3 c4 a1 a2 s a4 a5 a6 a7) (fun k s => qv_M (qv_g f m) (qv_x k 0) s) 4 0 a (by omega) (qv_Mc hM (fun r _ => qv_x0 r)) ?_ ?_
    · intro n s h
      refine pk_le 4 4 (fun _ => qv_74 (g := qv_g f m) (fun q hq => ?_) (fun a' ha' => H s a' ha')) (fun z => absurd z (by omega))
      rw [h q 4 hq (by omega), qv_x4 hq]
      unfold qv_e
      rw [if_pos rfl]
    · intro n k s hk h hw
      exact pk_le 4 k (fun z => absurd z (by omega)) (fun _ => qv_19 hk hg h hw)
  rw [qv_D0, nI_0] at L
  exact L
/-! the common divisor, lowest terms -/
theorem qv_17 {post : Int64 → Prop} {c0 c1 c4 : Int64} {c2 c3 : Int32} {a1 a2 a7 : Nat → Int32} {a3 a4 a5 a6 : Nat → Int64} {x : Int64}
    (h : x = 0 ∨ (¬ x = 0 ∧ qv_D 4 - qv_D 4 / x * x = qv_D 4 ∧ x - x / qv_D 4 * qv_D 4 = 0)) (H : post (qv_D 4)) :
    ∃ n, wX_commonDivisor_17 post c0 c1 c2 c3 c4 a1 a2 a3 a4 a5 a6 a7 n x (qv_D 4) := by
  rcases h with h | ⟨h1, h2, h3⟩
  · exact ⟨1, br_t h H⟩
  · have d : ¬ qv_D 4 = 0 := qv_Dne 4 (by omega)
    exact ⟨3, br_f h1 ⟨h1, nm_r h2 (br_f d ⟨d, nm_r h3 (br_t rfl H)⟩)⟩⟩
theorem qv_cd {post : Int64 → Prop} {c0 c1 c4 : Int64} {c2 c3 : Int32} {a1 a2 a7 : Nat → Int32} {a3 a4 a5 a6 : Nat → Int64} {n : Nat}
    (hn : n < 41) (H : post (qv_D 4)) : wpX_commonDivisor post (c0, c1, c2, c3, c4, a1, a2, a3, a4, a5, a6, a7) (qv_B n 4) (qv_D 4) :=
  br_c (fun z => qv_17 (qv_gp n hn z) H) (fun z => nm_e (qv_17 (Or.inr (qv_gm n hn z)) H))
theorem qv_lTop {post : Int32 → Prop} {c0 c1 c4 : Int64} {c2 c3 : Int32} {a1 a2 a7 : Nat → Int32} {a3 a4 a5 a6 : Nat → Int64} {n : Nat}
    (hn : n < 41) (H : post (2 * qv_R n)) : wpX_lowestTop post (c0, c1, c2, c3, c4, a1, a2, a3, a4, a5, a6, a7) (qv_B n 4) (qv_D 4) :=
  qv_cd (post := fun r_1 => (¬ r_1 = 0 ∧ (post ((qv_B n 4 / r_1).toInt32)))) hn ⟨qv_Dne 4 (by omega), by rw [qv_top n hn]; exact H⟩
theorem qv_lBot {post : Int32 → Prop} {c0 c1 c4 : Int64} {c2 c3 : Int32} {a1 a2 a7 : Nat → Int32} {a3 a4 a5 a6 : Nat → Int64} {n : Nat}
    (hn : n < 41) (H : post 1) : wpX_lowestBottom post (c0, c1, c2, c3, c4, a1, a2, a3, a4, a5, a6, a7) (qv_B n 4) (qv_D 4) :=
  qv_cd (post := fun r_1 => (¬ r_1 = 0 ∧ (post ((qv_D 4 / r_1).toInt32)))) hn ⟨qv_Dne 4 (by omega), by rw [qv_bot]; exact H⟩
end
section
/-! what an action gives -/
theorem qv_gain {post : Int64 → Prop} {c0 c1 c4 : Int64} {c2 c3 : Int32} {a1 a2 a7 : Nat → Int32} {a3 a4 a5 a6 : Nat → Int64} {f : Nat → Nat} {q a : Nat}
    (hq : q < 4) (ha : a < 2) (hW : qv_W f a1) (hS : qv_S a2)
    (H : post ((8 * (qv_R (f (2 * q + a))).toInt64) * c4 + 4 * a6 q)) :
    wpX_gainOf post (c0, c1, c2, c3, c4, a1, a2, a3, a4, a5, a6, a7) (nI q) (nI a) := by
  refine nm_r (qv_ix2 q a) ⟨pk_in (2 * q + a) 8 (by omega), ?_⟩
  rw [nI_clamp (show 2 * q + a < 2 ^ 31 by omega), (hW (2 * q + a) (by omega)).2]
  refine nm_e ?_
  refine pk_loop (fun n i s => wX_gainOf_27 post (nI (2 * q + a)) c0 c1 c2 c3 c4 a1 a2 a3 a4 a5 a6 a7 n s (nI i)) (fun i s => s = (8 * (qv_R (f (2 * q + a))).toInt64) * c4 + (if q < i then 4 * a6 q else 0)) 4 0 _ (by omega) ?_ ?_ ?_
  · show _ = _ + (if q < 0 then 4 * a6 q else 0)
    rw [if_neg (by omega), Int64.add_zero]
  · intro n s h
    refine pk_le 4 4 (fun _ => ?_) (fun z => absurd z (by omega))
    rw [if_pos hq] at h
    rw [h]
    exact H
  · intro n i s hi h hw
    refine pk_le 4 i (fun z => absurd z (by omega)) (fun _ => ⟨pk_in (4 * (2 * q + a) + i) 32 (by omega) (qv_ix4 _ _), pk_in i 4 hi, ?_⟩)
    rw [qv_ix4, nI_clamp (show 4 * (2 * q + a) + i < 2 ^ 31 by omega), nI_clamp (show i < 2 ^ 31 by omega), hS (2 * q + a) i (by omega) hi]
    refine nm_e (nm_r (nI_1 i) (hw _ ?_))
    show _ = _ + (if q < i + 1 then 4 * a6 q else 0)
    rw [h]
    by_cases e : i = q
    · rw [if_neg (show ¬ q < i by omega), if_pos (show i = (2 * q + a) / 2 by omega), if_pos (show q < i + 1 by omega), Int64.add_zero, e]
      rfl
    · rw [if_neg (show ¬ i = (2 * q + a) / 2 by omega), show (0 : Int32).toInt64 = 0 from rfl, Int64.zero_mul, Int64.add_zero]
      have z : q < i ↔ q < i + 1 := by omega
      simp only [z]
/-! one state improved -/
def qv_bet (f : Nat → Nat) (m q : Nat) : Prop := qv_g f m q < f (2 * q + (1 - qv_b m q))
def qv_new (f : Nat → Nat) (m q : Nat) : Nat := if qv_g f m q < f (2 * q + (1 - qv_b m q)) then 1 - qv_b m q else qv_b m q
def qv_good (f : Nat → Nat) (m q : Nat) : Nat := if f (2 * q) = f (2 * q + 1) then 3 else 1 + qv_b m q
theorem qv_o1 : ((0 : Int32) ||| ((1 : Int32) <<< (nI 0 &&& 31))).toInt8.toInt32 = nI 1 := by decide +kernel
theorem qv_o2 : ((0 : Int32) ||| ((1 : Int32) <<< (nI 1 &&& 31))).toInt8.toInt32 = nI 2 := by decide +kernel
theorem qv_o3 : (nI 1 ||| ((1 : Int32) <<< (nI 1 &&& 31))).toInt8.toInt32 = nI 3 := by decide +kernel
theorem qv_30 {post : Int32 → St2 → Prop} {J4 : Int32 → Int32 → Int32 → (Nat → Int32) → (Nat → Int32) → (Nat → Int64) → (Nat → Int64) → (Nat → Int64) → (Nat → Int64) → (Nat → Int32) → Prop} {c0 c1 : Int64} {c2 x1 bp : Int32} {a1 a2 a7 : Nat → Int32} {a3 a4 a5 a6 : Nat → Int64} {f : Nat → Nat} {q a k n : Nat}
    (hq : q < 4) (ha : a < 2) (hk : k < 41) (hW : qv_W f a1) (hS : qv_S a2) (h6 : a6 q = qv_B k 4)
    (hE : f (2 * q + a) = k → wX_improve_30 post J4 (nI q) (8 * qv_B k 4) c0 c1 c2 (qv_D 4) n x1 (nI (a + 1)) bp a1 a2 a3 a4 a5 a6 (upd a7 q ((a7 q ||| ((1 : Int32) <<< (nI a &&& 31))).toInt8.toInt32)))
    (hG : k < f (2 * q + a) → wX_improve_30 post J4 (nI q) (8 * qv_B k 4) c0 c1 c2 (qv_D 4) n 1 (nI (a + 1)) ((bp &&& (((1 : Int32) <<< (nI q &&& 31)) ^^^ (-1))) ||| (nI a <<< (nI q &&& 31))) a1 a2 a3 a4 a5 a6 a7)
    (hL : f (2 * q + a) < k → wX_improve_30 post J4 (nI q) (8 * qv_B k 4) c0 c1 c2 (qv_D 4) n x1 (nI (a + 1)) bp a1 a2 a3 a4 a5 a6 a7) :
    wX_improve_30 post J4 (nI q) (8 * qv_B k 4) c0 c1 c2 (qv_D 4) (n + 1) x1 (nI a) bp a1 a2 a3 a4 a5 a6 a7 := by
  have w := (hW (2 * q + a) (by omega)).1
  refine pk_le 2 a (fun z => absurd z (by omega)) (fun _ => qv_gain hq ha hW hS ?_)
  rw [h6]
  refine ek_if (qv_gE _ w k hk) (fun e => ⟨pk_in q 4 hq, pk_in q 4 hq, ?_⟩) (fun e => ?_)
  · rw [nI_clamp (show q < 2 ^ 31 by omega)]
    exact nm_e (ek_if (qv_gL _ w k hk) (fun z => absurd z (by omega)) (fun _ => nm_r (nI_1 a) (hE e)))
  · exact ek_if (qv_gL _ w k hk) (fun z => nm_e (nm_r (nI_1 a) (hG z))) (fun z => nm_r (nI_1 a) (hL (by omega)))
theorem qv_30x {post : Int32 → St2 → Prop} {J4 : Int32 → Int32 → Int32 → (Nat → Int32) → (Nat → Int32) → (Nat → Int64) → (Nat → Int64) → (Nat → Int64) → (Nat → Int64) → (Nat → Int32) → Prop} {c0 c1 x3 : Int64} {c2 x1 bp : Int32} {a1 a2 a7 : Nat → Int32} {a3 a4 a5 a6 : Nat → Int64} {q n : Nat}
    (H : J4 x1 (nI (q + 1)) bp a1 a2 a3 a4 a5 a6 a7) :
    wX_improve_30 post J4 (nI q) x3 c0 c1 c2 (qv_D 4) (n + 1) x1 (nI (1 + 1)) bp a1 a2 a3 a4 a5 a6 a7 :=
  pk_le 2 2 (fun _ => nm_r (nI_1 q) H) (fun z => absurd z (by omega))
theorem qv_i30 {post : Int32 → St2 → Prop} {J4 : Int32 → Int32 → Int32 → (Nat → Int32) → (Nat → Int32) → (Nat → Int64) → (Nat → Int64) → (Nat → Int64) → (Nat → Int64) → (Nat → Int32) → Prop} {c0 c1 : Int64} {c2 : Int32} {a1 a2 a7 : Nat → Int32} {a3 a4 a5 a6 : Nat → Int64} {f : Nat → Nat} {m p q w : Nat}
    (hq : q < 4) (hp : p < 16) (hW : qv_W f a1) (hS : qv_S a2) (h6 : a6 q = qv_B (qv_g f m q) 4) (hb : qv_b p q = qv_b m q) (h7 : a7 q = 0)
    (HJ : ∀ (w' p' : Nat) (a7' : Nat → Int32), p' < 16 → (∀ j, j < 4 → qv_b p' j = if j = q then qv_new f m q else qv_b p j) → a7' q = nI (qv_good f m q) → (∀ j, j ≠ q → a7' j = a7 j) → ((qv_bet f m q ∧ w' = 1) ∨ (¬ qv_bet f m q ∧ w' = w)) → J4 (nI w') (nI (q + 1)) (nI p') a1 a2 a3 a4 a5 a6 a7') :
    ∃ n, wX_improve_30 post J4 (nI q) (8 * qv_B (qv_g f m q) 4) c0 c1 c2 (qv_D 4) n (nI w) 0 (nI p) a1 a2 a3 a4 a5 a6 a7 := by
  have hk := qv_g41 hW m hq
  have keep : ∀ j, j < 4 → qv_b p j = if j = q then qv_b m q else qv_b p j := by
    intro j _
    by_cases e : j = q
    · rw [if_pos e, e, hb]
    · rw [if_neg e]
  refine ⟨3, ?_⟩
  have h01 : qv_b m q = 0 ∨ qv_b m q = 1 := by
    have := qv_b2 m q
    omega
  rcases h01 with b | b
  · -- action 0 is the policy's
    have g0 : qv_g f m q = f (2 * q) := by
      unfold qv_g
      rw [b]
      rfl
    have nb : f (2 * q + (1 - qv_b m q)) = f (2 * q + 1) := by rw [b]
    refine qv_30 (a := 0) hq (by omega) hk hW hS h6 (fun _ => ?_) (fun z => ?_) (fun z => ?_)
    · rw [h7, qv_o1]
      refine qv_30 (a := 1) hq (by omega) hk hW hS h6 (fun z => ?_) (fun z => ?_) (fun z => ?_)
      · refine qv_30x (HJ w p _ hp ?_ ?_ ?_ ?_)
        · have e : qv_new f m q = qv_b m q := by
            unfold qv_new
            rw [nb, if_neg (by omega)]
          rw [e]
          exact keep
        · rw [pk_us, pk_us, qv_o3]
          unfold qv_good
          rw [if_pos (by omega)]
        · intro j hj
          rw [pk_un hj, pk_un hj]
        · right
          refine ⟨?_, rfl⟩
          unfold qv_bet
          rw [nb]
          omega
      · rw [qv_putE p hp q hq 1 (by omega)]
        refine qv_30x (HJ 1 (qv_put p q 1) _ (qv_put16 p hp q hq 1 (by omega)) ?_ ?_ ?_ ?_)
        · have e : qv_new f m q = 1 := by
            unfold qv_new
            rw [nb, if_pos z, b]
          rw [e]
          exact qv_putB p hp q hq 1 (by omega)
        · rw [pk_us]
          unfold qv_good
          rw [if_neg (by omega), b]
        · intro j hj
          rw [pk_un hj]
        · left
          refine ⟨?_, rfl⟩
          unfold qv_bet
          rw [nb]
          exact z
      · refine qv_30x (HJ w p _ hp ?_ ?_ ?_ ?_)
        · have e : qv_new f m q = qv_b m q := by
            unfold qv_new
            rw [nb, if_neg (by omega)]
          rw [e]
          exact keep
        · rw [pk_us]
          unfold qv_good
          rw [if_neg (by omega), b]
        · intro j hj
          rw [pk_un hj]
        · right
          refine ⟨?_, rfl⟩
          unfold qv_bet
          rw [nb]
          omega
    · have z' : qv_g f m q < f (2 * q) := z
      exact absurd z' (by omega)
    · have z' : f (2 * q) < qv_g f m q := z
      exact absurd z' (by omega)
  · -- action 1 is the policy's
    have g1 : qv_g f m q = f (2 * q + 1) := by
      unfold qv_g
      rw [b]
    have nb : f (2 * q + (1 - qv_b m q)) = f (2 * q) := by
      rw [b]
      rfl
    refine qv_30 (a := 0) hq (by omega) hk hW hS h6 (fun z => ?_) (fun z => ?_) (fun z => ?_)
    · have z' : f (2 * q) = qv_g f m q := z
      rw [h7, qv_o1]
      refine qv_30 (a := 1) hq (by omega) hk hW hS h6 (fun _ => ?_) (fun z => ?_) (fun z => ?_)
      · refine qv_30x (HJ w p _ hp ?_ ?_ ?_ ?_)
        · have e : qv_new f m q = qv_b m q := by
            unfold qv_new
            rw [nb, if_neg (by omega)]
          rw [e]
          exact keep
        · rw [pk_us, pk_us, qv_o3]
          unfold qv_good
          rw [if_pos (by omega)]
        · intro j hj
          rw [pk_un hj, pk_un hj]
        · right
          refine ⟨?_, rfl⟩
          unfold qv_bet
          rw [nb]
          omega
      · exact absurd z (by omega)
      · exact absurd z (by omega)
    · have z' : qv_g f m q < f (2 * q) := z
      rw [qv_putE p hp q hq 0 (by omega)]
      refine qv_30 (a := 1) hq (by omega) hk hW hS h6 (fun _ => ?_) (fun z => ?_) (fun z => ?_)
      · rw [h7, qv_o2]
        refine qv_30x (HJ 1 (qv_put p q 0) _ (qv_put16 p hp q hq 0 (by omega)) ?_ ?_ ?_ ?_)
        · have e : qv_new f m q = 0 := by
            unfold qv_new
            rw [nb, if_pos z', b]
          rw [e]
          exact qv_putB p hp q hq 0 (by omega)
        · rw [pk_us]
          unfold qv_good
          rw [if_neg (by omega), b]
        · intro j hj
          rw [pk_un hj]
        · left
          refine ⟨?_, rfl⟩
          unfold qv_bet
          rw [nb]
          exact z'
      · exact absurd z (by omega)
      · exact absurd z (by omega)
    · have z' : f (2 * q) < qv_g f m q := z
      refine qv_30 (a := 1) hq (by omega) hk hW hS h6 (fun _ => ?_) (fun z => ?_) (fun z => ?_)
      · rw [h7, qv_o2]
        refine qv_30x (HJ w p _ hp ?_ ?_ ?_ ?_)
        · have e : qv_new f m q = qv_b m q := by
            unfold qv_new
            rw [nb, if_neg (by omega)]
          rw [e]
          exact keep
        · rw [pk_us]
          unfold qv_good
          rw [if_neg (by omega), b]
        · intro j hj
          rw [pk_un hj]
        · right
          refine ⟨?_, rfl⟩
          unfold qv_bet
          rw [nb]
          omega
      · exact absurd z (by omega)
      · exact absurd z (by omega)
end
section
/-! improve -/
theorem qv_n1 : ∀ w, w < 2 → nI w &&& 1 = nI w := by decide +kernel
theorem qv_improve {post : Int32 → St2 → Prop} {c0 c1 : Int64} {c2 : Int32} {a1 a2 a7 : Nat → Int32} {a3 a4 a5 a6 : Nat → Int64} {f : Nat → Nat} {m : Nat}
    (hm : m < 16) (hW : qv_W f a1) (hS : qv_S a2) (h6 : ∀ q, q < 4 → a6 q = qv_B (qv_g f m q) 4)
    (H : ∀ (w p : Nat) (a7' : Nat → Int32), w < 2 → p < 16 → (w = 0 ↔ ∀ q, q < 4 → ¬ qv_bet f m q) → (∀ q, q < 4 → qv_b p q = qv_new f m q) → (∀ q, q < 4 → a7' q = nI (qv_good f m q)) → post (nI w) (c0, c1, c2, nI p, qv_D 4, a1, a2, a3, a4, a5, a6, a7')) :
    wpX_improve post (c0, c1, c2, nI m, qv_D 4, a1, a2, a3, a4, a5, a6, a7) := by
  refine pk_loop (σ := Nat × Nat × (Nat → Int32)) (fun n i s => wX_improve_4 post c0 c1 c2 (qv_D 4) n (nI s.1) (nI i) (nI s.2.1) a1 a2 a3 a4 a5 a6 s.2.2)
    (fun i s => s.1 < 2 ∧ s.2.1 < 16 ∧ (s.1 = 0 ↔ ∀ q, q < i → ¬ qv_bet f m q) ∧ (∀ q, q < 4 → qv_b s.2.1 q = if q < i then qv_new f m q else qv_b m q) ∧ (∀ q, q < i → s.2.2 q = nI (qv_good f m q))) 4 0 (0, m, a7) (by omega) ?_ ?_ ?_
  · refine ⟨(show 0 < 2 by omega), hm, ⟨fun _ q h => absurd h (by omega), fun _ => rfl⟩, fun q hq => ?_, fun q h => absurd h (by omega)⟩
    rw [if_neg (by omega)]
  · rintro n ⟨w, p, s⟩ ⟨h1, h2, h3, h4, h5⟩
    refine pk_le 4 4 (fun _ => ⟨?_, ?_⟩) (fun z => absurd z (by omega))
    · show Value.int (nI w &&& 1) = Value.int (nI w)
      rw [qv_n1 w h1]
    · refine H w p s h1 h2 h3 (fun q hq => ?_) h5
      have t := h4 q hq
      rw [if_pos hq] at t
      exact t
  · rintro n i ⟨w, p, s⟩ hi ⟨h1, h2, h3, h4, h5⟩ hw
    dsimp only at h1 h2 h3 h4 h5 hw ⊢
    refine pk_le 4 i (fun z => absurd z (by omega)) (fun _ => ⟨pk_in i 4 hi, ?_⟩)
    rw [nI_clamp (show i < 2 ^ 31 by omega), h6 i hi]
    refine nm_e ⟨pk_in i 4 hi, nm_e ?_⟩
    have hb : qv_b p i = qv_b m i := by
      rw [h4 i hi, if_neg (by omega)]
    refine qv_i30 hi h2 hW hS (h6 i hi) hb pk_us (fun w' p' a7' k1 k2 k3 k4 k5 => hw (w', p', a7') ⟨?_, k1, ?_, ?_, ?_⟩)
    · rcases k5 with ⟨_, e⟩ | ⟨_, e⟩
      · show w' < 2
        omega
      · show w' < 2
        omega
    · show w' = 0 ↔ _
      rcases k5 with ⟨b, e⟩ | ⟨b, e⟩
      · exact ⟨fun z => absurd z (by omega), fun z => absurd b (z i (by omega))⟩
      · rw [e, h3]
        constructor
        · intro z q hq
          by_cases j : q = i
          · rw [j]
            exact b
          · exact z q (by omega)
        · intro z q hq
          exact z q (by omega)
    · intro q hq
      show qv_b p' q = _
      rw [k2 q hq]
      by_cases j : q = i
      · rw [if_pos j, if_pos (by omega), j]
      · rw [if_neg j, h4 q hq]
        have z : q < i ↔ q < i + 1 := by omega
        simp only [z]
    · intro q hq
      show a7' q = _
      by_cases j : q = i
      · rw [j, k3]
      · rw [k4 q j, pk_un j]
        exact h5 q (by omega)
/-! solve: a round, the end, two rounds at most -/
theorem qv_42 {post : St2 → Prop} {J22 : Int32 → Int32 → Int64 → Int64 → Int32 → Int32 → Int64 → (Nat → Int32) → (Nat → Int32) → (Nat → Int64) → (Nat → Int64) → (Nat → Int64) → (Nat → Int64) → (Nat → Int32) → Prop} {c1 c4 : Int64} {c2 : Int32} {a1 a2 a7 : Nat → Int32} {a3 a4 a5 a6 : Nat → Int64} {f : Nat → Nat} {m i : Nat}
    (hm : m < 16) (hW : qv_W f a1) (hS : qv_S a2) (h4 : ∀ q, q < 4 → a4 q = qv_B (qv_g f m q) 4)
    (H : ∀ (w p : Nat) (a6' : Nat → Int64) (a7' : Nat → Int32), w < 2 → p < 16 → (w = 0 ↔ ∀ q, q < 4 → ¬ qv_bet f m q) → (∀ q, q < 4 → qv_b p q = qv_new f m q) → (∀ q, q < 4 → a6' q = qv_B (qv_g f m q) 4) → (∀ q, q < 4 → a7' q = nI (qv_good f m q)) → J22 (nI w) (nI (i + 1)) (qv_D 4) c1 c2 (nI p) (qv_D 4) a1 a2 a3 a4 a5 a6' a7') :
    ∃ n, wX_solve_42 post J22 (nI i) (qv_D 4) c1 c2 (nI m) c4 n 0 a1 a2 a3 a4 a5 a6 a7 := by
  refine pk_loop (fun n j s => wX_solve_42 post J22 (nI i) (qv_D 4) c1 c2 (nI m) c4 n (nI j) a1 a2 a3 a4 a5 s a7) (fun j s => ∀ q, q < j → s q = qv_B (qv_g f m q) 4) 4 0 a6 (by omega) (fun q h => absurd h (by omega)) ?_ ?_
  · intro n s h
    refine pk_le 4 4 (fun _ => qv_improve hm hW hS h (fun w p a7' k1 k2 k3 k4 k5 => ?_)) (fun z => absurd z (by omega))
    exact nm_r (nI_1 i) (H w p s a7' k1 k2 k3 k4 h k5)
  · intro n j s hj h hw
    refine pk_le 4 j (fun z => absurd z (by omega)) (fun _ => ⟨pk_in j 4 hj, pk_in j 4 hj, ?_⟩)
    rw [nI_clamp (show j < 2 ^ 31 by omega)]
    refine nm_e (nm_r (nI_1 j) (hw _ (fun q hq => ?_)))
    by_cases e : q = j
    · rw [e, pk_uLs, h4 j hj]
    · rw [pk_uLn e, h q (by omega)]
theorem qv_round {post : St2 → Prop} {c0 c1 c4 : Int64} {c2 : Int32} {a1 a2 a7 : Nat → Int32} {a3 a4 a5 a6 : Nat → Int64} {f : Nat → Nat} {m i n : Nat}
    (hi : i < 17) (hm : m < 16) (hW : qv_W f a1) (hS : qv_S a2)
    (H : ∀ (w p : Nat) (a3' a4' a6' : Nat → Int64) (a7' : Nat → Int32), w < 2 → p < 16 → (w = 0 ↔ ∀ q, q < 4 → ¬ qv_bet f m q) → (∀ q, q < 4 → qv_b p q = qv_new f m q) → (∀ q, q < 4 → a6' q = qv_B (qv_g f m q) 4) → (∀ q, q < 4 → a7' q = nI (qv_good f m q)) → wX_solve_22 post n (nI w) (nI (i + 1)) (qv_D 4) c1 c2 (nI p) (qv_D 4) a1 a2 a3' a4' a5 a6' a7') :
    wX_solve_22 post (n + 1) (nI 1) (nI i) c0 c1 c2 (nI m) c4 a1 a2 a3 a4 a5 a6 a7 := by
  refine pk_le 17 i (fun z => absurd z (by omega)) (fun _ => br_f (nI_ne0 (by omega) (by omega)) ?_)
  exact qv_evaluate hm hW hS (fun a3' a4' h4 => qv_42 hm hW hS h4 (fun w p a6' a7' => H w p a3' a4' a6' a7'))
theorem qv_end {post : St2 → Prop} {c0 c1 c4 : Int64} {c2 c3 : Int32} {a1 a2 a7 : Nat → Int32} {a3 a4 a5 a6 : Nat → Int64} {i n : Nat}
    (hi : i < 17) (H : post (c0, c1, c2, c3, c4, a1, a2, a3, a4, a5, a6, a7)) :
    wX_solve_22 post (n + 1) (nI 0) (nI i) c0 c1 c2 c3 c4 a1 a2 a3 a4 a5 a6 a7 :=
  pk_le 17 i (fun z => absurd z (by omega)) (fun _ => br_t rfl H)
/-- the answers that solve leaves -/
def qv_Z (f : Nat → Nat) (a6 : Nat → Int64) (a7 : Nat → Int32) : Prop := ∀ q, q < 4 → a6 q = qv_B (max (f (2 * q)) (f (2 * q + 1))) 4 ∧ a7 q = nI (if f (2 * q) = f (2 * q + 1) then 3 else if f (2 * q) < f (2 * q + 1) then 2 else 1)
/-- a policy that can't be made better has the best values -/
theorem qv_fin {f : Nat → Nat} {m : Nat} {a6 : Nat → Int64} {a7 : Nat → Int32} (hn : ∀ q, q < 4 → ¬ qv_bet f m q) (h6 : ∀ q, q < 4 → a6 q = qv_B (qv_g f m q) 4) (h7 : ∀ q, q < 4 → a7 q = nI (qv_good f m q)) : qv_Z f a6 a7 := by
  intro q hq
  have n := hn q hq
  unfold qv_bet at n
  have h01 : qv_b m q = 0 ∨ qv_b m q = 1 := by
    have := qv_b2 m q
    omega
  rw [h6 q hq, h7 q hq]
  unfold qv_good
  unfold qv_g at n ⊢
  rcases h01 with b | b
  · rw [b] at n ⊢
    have n' : ¬ f (2 * q) < f (2 * q + 1) := n
    refine ⟨?_, ?_⟩
    · rw [show max (f (2 * q)) (f (2 * q + 1)) = f (2 * q) by omega]
      rfl
    · by_cases e : f (2 * q) = f (2 * q + 1)
      · rw [if_pos e, if_pos e]
      · rw [if_neg e, if_neg e, if_neg n']
  · rw [b] at n ⊢
    have n' : ¬ f (2 * q + 1) < f (2 * q) := n
    refine ⟨?_, ?_⟩
    · rw [show max (f (2 * q)) (f (2 * q + 1)) = f (2 * q + 1) by omega]
    · by_cases e : f (2 * q) = f (2 * q + 1)
      · rw [if_pos e, if_pos e]
      · rw [if_neg e, if_neg e, if_pos (by omega)]
theorem qv_b0 : ∀ q, q < 4 → qv_b 0 q = 0 := by decide +kernel
/-- the state's picture: rewards by f, the first shares; if solved, the answers -/
def qv_K (f : Nat → Nat) (c2 : Int32) (c4 : Int64) (a1 a2 : Nat → Int32) (a6 : Nat → Int64) (a7 : Nat → Int32) : Prop := qv_W f a1 ∧ qv_S a2 ∧ (c2 = 0 ∨ (c2 = 1 ∧ c4 = qv_D 4 ∧ qv_Z f a6 a7))
theorem qv_solve {post : St2 → Prop} {c0 c1 c4 : Int64} {c2 c3 : Int32} {a1 a2 a7 : Nat → Int32} {a3 a4 a5 a6 : Nat → Int64} {f : Nat → Nat}
    (hK : qv_K f c2 c4 a1 a2 a6 a7)
    (H : ∀ (c0 : Int64) (c3 : Int32) (a3 a4 a6 : Nat → Int64) (a7 : Nat → Int32), qv_Z f a6 a7 → post (c0, c1, 1, c3, qv_D 4, a1, a2, a3, a4, a5, a6, a7)) :
    wpX_solve post (c0, c1, c2, c3, c4, a1, a2, a3, a4, a5, a6, a7) := by
  obtain ⟨hW, hS, h0 | ⟨h1, h2, h3⟩⟩ := hK
  · refine br_t h0 ⟨4, ?_⟩
    have b0 : ∀ q, q < 4 → (qv_g f 0 q = f (2 * q) ∧ f (2 * q + (1 - qv_b 0 q)) = f (2 * q + 1)) := by
      intro q hq
      unfold qv_g
      rw [qv_b0 q hq]
      exact ⟨rfl, rfl⟩
    refine qv_round (i := 0) (m := 0) (n := 3) (by omega) (by omega) hW hS (fun w p a3' a4' a6' a7' k1 k2 k3 k4 k5 k6 => ?_)
    rcases (show w = 0 ∨ w = 1 by omega) with e | e
    · rw [e]
      exact qv_end (n := 2) (by omega) (H _ _ _ _ _ _ (qv_fin (k3.mp e) k5 k6))
    · rw [e]
      have kb : ∀ q, q < 4 → qv_b p q = if f (2 * q) < f (2 * q + 1) then 1 else 0 := by
        intro q hq
        rw [k4 q hq]
        unfold qv_new
        rw [(b0 q hq).1, (b0 q hq).2, qv_b0 q hq]
      have nb : ∀ q, q < 4 → ¬ qv_bet f p q := by
        intro q hq
        unfold qv_bet qv_g
        rw [kb q hq]
        by_cases z : f (2 * q) < f (2 * q + 1)
        · rw [if_pos z]
          show ¬ f (2 * q + 1) < f (2 * q)
          omega
        · rw [if_neg z]
          exact z
      refine qv_round (i := 1) (n := 2) (by omega) k2 hW hS (fun w' p' a3'' a4'' a6'' a7'' l1 l2 l3 l4 l5 l6 => ?_)
      rw [l3.mpr nb]
      exact qv_end (n := 1) (by omega) (H _ _ _ _ _ _ (qv_fin nb l5 l6))
  · rw [h1, h2]
    exact br_f (by decide) (H _ _ _ _ _ _ h3)
/-! policies, policy -/
def qv_cnt (f : Nat → Nat) : Nat → Nat
  | 0 => 1
  | i + 1 => if f (2 * i) = f (2 * i + 1) then qv_cnt f i * 2 else qv_cnt f i
def qv_sm (f : Nat → Nat) : Nat → Nat
  | 0 => 0
  | i + 1 => if f (2 * i) < f (2 * i + 1) then qv_sm f i + 2 ^ i else qv_sm f i
theorem qv_smL (f : Nat → Nat) (i : Nat) : qv_sm f i < 2 ^ i := by
  induction i with
  | zero => show 0 < 1; omega
  | succ i ih =>
    have e : 2 ^ (i + 1) = 2 ^ i + 2 ^ i := by rw [Nat.pow_succ]; omega
    unfold qv_sm
    split <;> omega
theorem qv_or : ∀ i, i < 4 → ∀ x, x < 2 ^ i → nI x ||| ((1 : Int32) <<< (nI i &&& 31)) = nI (x + 2 ^ i) := by decide +kernel
theorem qv_policies {post : Int32 → St2 → Prop} {c0 c1 c4 : Int64} {c2 c3 : Int32} {a1 a2 a7 : Nat → Int32} {a3 a4 a5 a6 : Nat → Int64} {f : Nat → Nat}
    (hK : qv_K f c2 c4 a1 a2 a6 a7)
    (H : ∀ (c0 : Int64) (c2 c3 : Int32) (c4 : Int64) (a3 a4 a6 : Nat → Int64) (a7 : Nat → Int32), qv_K f c2 c4 a1 a2 a6 a7 → post (nI (qv_cnt f 4)) (c0, c1, c2, c3, c4, a1, a2, a3, a4, a5, a6, a7)) :
    wpX_policies post (c0, c1, c2, c3, c4, a1, a2, a3, a4, a5, a6, a7) := by
  refine qv_solve hK (fun c0 c3 a3 a4 a6 a7 hZ => ?_)
  refine pk_loop (fun n i s => wX_policies_8 post c0 c1 1 c3 (qv_D 4) a1 a2 a3 a4 a5 a6 a7 n s (nI i)) (fun i s => s = nI (qv_cnt f i)) 4 0 (1 : Int32) (by omega) rfl ?_ ?_
  · intro n s h
    rw [h]
    exact pk_le 4 4 (fun _ => H _ _ _ _ _ _ _ _ ⟨hK.1, hK.2.1, Or.inr ⟨rfl, rfl, hZ⟩⟩) (fun z => absurd z (by omega))
  · intro n i s hi h hw
    refine pk_le 4 i (fun z => absurd z (by omega)) (fun _ => ⟨pk_in i 4 hi, ?_⟩)
    rw [nI_clamp (show i < 2 ^ 31 by omega), (hZ i hi).2, h]
    have e : qv_cnt f (i + 1) = if f (2 * i) = f (2 * i + 1) then qv_cnt f i * 2 else qv_cnt f i := rfl
    by_cases z : f (2 * i) = f (2 * i + 1)
    · rw [if_pos z] at e ⊢
      refine br_t rfl (nm_e (nm_r (nI_1 i) (hw _ ?_)))
      rw [e, ← pk_mul]
      rfl
    · rw [if_neg z] at e ⊢
      refine br_f ?_ (nm_r (nI_1 i) (hw _ ?_))
      · split <;> decide
      · rw [e]
theorem qv_policy {post : Int32 → St2 → Prop} {c0 c1 c4 : Int64} {c2 c3 : Int32} {a1 a2 a7 : Nat → Int32} {a3 a4 a5 a6 : Nat → Int64} {f : Nat → Nat}
    (hK : qv_K f c2 c4 a1 a2 a6 a7)
    (H : ∀ (c0 : Int64) (c2 c3 : Int32) (c4 : Int64) (a3 a4 a6 : Nat → Int64) (a7 : Nat → Int32), qv_K f c2 c4 a1 a2 a6 a7 → post (nI (qv_sm f 4)) (c0, c1, c2, c3, c4, a1, a2, a3, a4, a5, a6, a7)) :
    wpX_policy post (c0, c1, c2, c3, c4, a1, a2, a3, a4, a5, a6, a7) := by
  refine qv_solve hK (fun c0 c3 a3 a4 a6 a7 hZ => ?_)
  refine pk_loop (fun n i s => wX_policy_8 post c0 c1 1 c3 (qv_D 4) a1 a2 a3 a4 a5 a6 a7 n s (nI i)) (fun i s => s = nI (qv_sm f i)) 4 0 (0 : Int32) (by omega) rfl ?_ ?_
  · intro n s h
    rw [h]
    exact pk_le 4 4 (fun _ => H _ _ _ _ _ _ _ _ ⟨hK.1, hK.2.1, Or.inr ⟨rfl, rfl, hZ⟩⟩) (fun z => absurd z (by omega))
  · intro n i s hi h hw
    refine pk_le 4 i (fun z => absurd z (by omega)) (fun _ => ⟨pk_in i 4 hi, ?_⟩)
    rw [nI_clamp (show i < 2 ^ 31 by omega), (hZ i hi).2, h]
    have e : qv_sm f (i + 1) = if f (2 * i) < f (2 * i + 1) then qv_sm f i + 2 ^ i else qv_sm f i := rfl
    by_cases z : f (2 * i) < f (2 * i + 1)
    · rw [if_pos z] at e
      rw [if_neg (show ¬ f (2 * i) = f (2 * i + 1) by omega), if_pos z]
      refine br_t (by decide) (nm_e (nm_r (nI_1 i) (hw _ ?_)))
      rw [e, qv_or i hi _ (qv_smL f i)]
    · rw [if_neg z] at e
      rw [if_neg z]
      refine br_f ?_ (nm_r (nI_1 i) (hw _ ?_))
      · split <;> decide
      · rw [e]
end
section
/-! the two checks of arguments -/
theorem qv_isS {post : Int32 → Prop} {c0 c1 c4 : Int64} {c2 c3 : Int32} {a1 a2 a7 : Nat → Int32} {a3 a4 a5 a6 : Nat → Int64} {q : Nat}
    (hq : q < 4) (H : post 1) : wpX_isState post (c0, c1, c2, c3, c4, a1, a2, a3, a4, a5, a6, a7) (nI q) :=
  pk_lt q 0 (fun z => absurd z (by omega)) (fun _ => pk_le 4 q (fun z => absurd z (by omega)) (fun _ => H))
theorem qv_isSN {post : Int32 → Prop} {c0 c1 c4 : Int64} {c2 c3 : Int32} {a1 a2 a7 : Nat → Int32} {a3 a4 a5 a6 : Nat → Int64} {t : Int32}
    (h : t < 0 ∨ 4 ≤ t) (H : post 0) : wpX_isState post (c0, c1, c2, c3, c4, a1, a2, a3, a4, a5, a6, a7) t :=
  br_c (fun _ => H) (fun n => br_c (fun _ => H) (fun n4 => absurd h (fun z => z.elim n n4)))
theorem qv_isP {post : Int32 → Prop} {c0 c1 c4 : Int64} {c2 c3 : Int32} {a1 a2 a7 : Nat → Int32} {a3 a4 a5 a6 : Nat → Int64} {m : Nat}
    (hm : m < 16) (H : post 1) : wpX_isPolicy post (c0, c1, c2, c3, c4, a1, a2, a3, a4, a5, a6, a7) (nI m) :=
  pk_lt m 0 (fun z => absurd z (by omega)) (fun _ => pk_lt 15 m (fun z => absurd z (by omega)) (fun _ => H))
/-! the values of a policy -/
theorem qv_vTop {post : Int32 → St2 → Prop} {c0 c1 c4 : Int64} {c2 c3 : Int32} {a1 a2 a7 : Nat → Int32} {a3 a4 a5 a6 : Nat → Int64} {f : Nat → Nat} {m q : Nat}
    (hm : m < 16) (hq : q < 4) (hK : qv_K f c2 c4 a1 a2 a6 a7)
    (H : ∀ (c0 : Int64) (a3 a4 : Nat → Int64), post (2 * qv_R (qv_g f m q)) (c0, c1, c2, c3, c4, a1, a2, a3, a4, a5, a6, a7)) :
    wpX_valueTop post (c0, c1, c2, c3, c4, a1, a2, a3, a4, a5, a6, a7) (nI m) (nI q) := by
  unfold wpX_valueTop
  refine qv_isP hm (br_f (by decide) ?_)
  refine qv_isS hq (br_f (by decide) ?_)
  refine qv_evaluate hm hK.1 hK.2.1 (fun a3 a4 h4 => ⟨pk_in q 4 hq, ?_⟩)
  rw [nI_clamp (show q < 2 ^ 31 by omega), h4 q hq]
  exact qv_lTop (qv_g41 hK.1 m hq) (H _ _ _)
theorem qv_vBot {post : Int32 → St2 → Prop} {c0 c1 c4 : Int64} {c2 c3 : Int32} {a1 a2 a7 : Nat → Int32} {a3 a4 a5 a6 : Nat → Int64} {f : Nat → Nat} {m q : Nat}
    (hm : m < 16) (hq : q < 4) (hK : qv_K f c2 c4 a1 a2 a6 a7)
    (H : ∀ (c0 : Int64) (a3 a4 : Nat → Int64), post 1 (c0, c1, c2, c3, c4, a1, a2, a3, a4, a5, a6, a7)) :
    wpX_valueBottom post (c0, c1, c2, c3, c4, a1, a2, a3, a4, a5, a6, a7) (nI m) (nI q) := by
  unfold wpX_valueBottom
  refine qv_isP hm (br_f (by decide) ?_)
  refine qv_isS hq (br_f (by decide) ?_)
  refine qv_evaluate hm hK.1 hK.2.1 (fun a3 a4 h4 => ⟨pk_in q 4 hq, ?_⟩)
  rw [nI_clamp (show q < 2 ^ 31 by omega), h4 q hq]
  exact qv_lBot (qv_g41 hK.1 m hq) (H _ _ _)
theorem qv_vTopN {post : Int32 → St2 → Prop} {c0 c1 c4 : Int64} {c2 c3 : Int32} {a1 a2 a7 : Nat → Int32} {a3 a4 a5 a6 : Nat → Int64} {p t : Int32}
    (h : p < 0 ∨ 15 < p ∨ t < 0 ∨ 4 ≤ t) (H : post (-1000000) (c0, c1, c2, c3, c4, a1, a2, a3, a4, a5, a6, a7)) :
    wpX_valueTop post (c0, c1, c2, c3, c4, a1, a2, a3, a4, a5, a6, a7) p t := by
  unfold wpX_valueTop
  refine br_c (fun _ => br_t rfl H) (fun n0 => br_c (fun _ => br_t rfl H) (fun n1 => br_f (by decide) ?_))
  refine qv_isSN ?_ (br_t rfl H)
  rcases h with z | z | z | z
  · exact absurd z n0
  · exact absurd z n1
  · exact Or.inl z
  · exact Or.inr z
theorem qv_vBotN {post : Int32 → St2 → Prop} {c0 c1 c4 : Int64} {c2 c3 : Int32} {a1 a2 a7 : Nat → Int32} {a3 a4 a5 a6 : Nat → Int64} {p t : Int32}
    (h : p < 0 ∨ 15 < p ∨ t < 0 ∨ 4 ≤ t) (H : post (-1000000) (c0, c1, c2, c3, c4, a1, a2, a3, a4, a5, a6, a7)) :
    wpX_valueBottom post (c0, c1, c2, c3, c4, a1, a2, a3, a4, a5, a6, a7) p t := by
  unfold wpX_valueBottom
  refine br_c (fun _ => br_t rfl H) (fun n0 => br_c (fun _ => br_t rfl H) (fun n1 => br_f (by decide) ?_))
  refine qv_isSN ?_ (br_t rfl H)
  rcases h with z | z | z | z
  · exact absurd z n0
  · exact absurd z n1
  · exact Or.inl z
  · exact Or.inr z
theorem qv_bTop {post : Int32 → St2 → Prop} {c0 c1 c4 : Int64} {c2 c3 : Int32} {a1 a2 a7 : Nat → Int32} {a3 a4 a5 a6 : Nat → Int64} {f : Nat → Nat} {q : Nat}
    (hq : q < 4) (hK : qv_K f c2 c4 a1 a2 a6 a7)
    (H : ∀ (c0 : Int64) (c2 c3 : Int32) (c4 : Int64) (a3 a4 a6 : Nat → Int64) (a7 : Nat → Int32), qv_K f c2 c4 a1 a2 a6 a7 → post (2 * qv_R (max (f (2 * q)) (f (2 * q + 1)))) (c0, c1, c2, c3, c4, a1, a2, a3, a4, a5, a6, a7)) :
    wpX_bestTop post (c0, c1, c2, c3, c4, a1, a2, a3, a4, a5, a6, a7) (nI q) := by
  unfold wpX_bestTop
  refine qv_isS hq (br_f (by decide) ?_)
  refine qv_solve hK (fun c0 c3 a3 a4 a6 a7 hZ => ⟨pk_in q 4 hq, ?_⟩)
  rw [nI_clamp (show q < 2 ^ 31 by omega), (hZ q hq).1]
  have w1 := (hK.1 (2 * q) (by omega)).1
  have w2 := (hK.1 (2 * q + 1) (by omega)).1
  exact qv_lTop (by omega) (H _ _ _ _ _ _ _ _ ⟨hK.1, hK.2.1, Or.inr ⟨rfl, rfl, hZ⟩⟩)
theorem qv_bTopN {post : Int32 → St2 → Prop} {c0 c1 c4 : Int64} {c2 c3 : Int32} {a1 a2 a7 : Nat → Int32} {a3 a4 a5 a6 : Nat → Int64} {t : Int32}
    (h : t < 0 ∨ 4 ≤ t) (H : post (-1000000) (c0, c1, c2, c3, c4, a1, a2, a3, a4, a5, a6, a7)) :
    wpX_bestTop post (c0, c1, c2, c3, c4, a1, a2, a3, a4, a5, a6, a7) t := by
  unfold wpX_bestTop
  exact qv_isSN h (br_t rfl H)
/-! the reward that the law puts -/
def qv_f (c n : Nat) : Nat → Nat := fun j => if j = c then n else 20
theorem qv_nar : ∀ n, n < 41 → (qv_R n).toInt8.toInt32 = qv_R n := by decide +kernel
theorem qv_cmp : ∀ n, n < 41 → ¬ qv_R n < (-20) ∧ qv_R n ≤ 20 := by decide +kernel
theorem qv_R20 : qv_R 20 = 0 := by decide +kernel
theorem qv_rewP {post : Int32 → St2 → Prop} {c0 c1 c4 : Int64} {c2 c3 : Int32} {a2 a7 : Nat → Int32} {a3 a4 a5 a6 : Nat → Int64} {s a n : Nat}
    (hs : s < 4) (ha : a < 2) (hn : n < 41)
    (H : ∀ a1, qv_W (qv_f (2 * s + a) n) a1 → post 1 (c0, c1, 0, c3, c4, a1, a2, a3, a4, a5, a6, a7)) :
    wpX_reward post (c0, c1, c2, c3, c4, (fun _ => 0), a2, a3, a4, a5, a6, a7) (nI s) (nI a) (qv_R n) := by
  unfold wpX_reward
  refine qv_isS hs (br_f (by decide) ?_)
  refine pk_lt a 0 (fun z => absurd z (by omega)) (fun _ => pk_lt 1 a (fun z => absurd z (by omega)) (fun _ => br_f (qv_cmp n hn).1 (br_t (qv_cmp n hn).2 ⟨pk_in (2 * s + a) 8 (by omega) (qv_ix2 s a), ?_⟩)))
  rw [qv_ix2, nI_clamp (show 2 * s + a < 2 ^ 31 by omega), qv_nar n hn]
  refine nm_e (H _ (fun j hj => ?_))
  unfold qv_f
  by_cases e : j = 2 * s + a
  · rw [if_pos e, e, pk_us]
    exact ⟨hn, rfl⟩
  · rw [if_neg e, pk_un e]
    exact ⟨by omega, qv_R20.symm⟩
theorem qv_rewN {post : Int32 → St2 → Prop} {c0 c1 c4 : Int64} {c2 c3 : Int32} {a1 a2 a7 : Nat → Int32} {a3 a4 a5 a6 : Nat → Int64} {p0 p1 p2 : Int32}
    (h : p0 < 0 ∨ 4 ≤ p0 ∨ p1 < 0 ∨ 1 < p1 ∨ p2 < (-20) ∨ ¬ p2 ≤ 20)
    (H : post 0 (c0, c1, c2, c3, c4, a1, a2, a3, a4, a5, a6, a7)) :
    wpX_reward post (c0, c1, c2, c3, c4, a1, a2, a3, a4, a5, a6, a7) p0 p1 p2 := by
  unfold wpX_reward
  refine br_c (fun _ => br_t rfl H) (fun n0 => br_c (fun _ => br_t rfl H) (fun n1 => br_f (by decide) ?_))
  refine br_c (fun _ => H) (fun n2 => br_c (fun _ => H) (fun n3 => br_c (fun _ => H) (fun n4 => br_c (fun n5 => ?_) (fun _ => H))))
  rcases h with z | z | z | z | z | z
  · exact absurd z n0
  · exact absurd z n1
  · exact absurd z n2
  · exact absurd z n3
  · exact absurd z n4
  · exact absurd n5 z
end
section
/-! what the law asks of the picture f: x0 state, x1 action, x5 put, x8 the reward that counts -/
abbrev qv_A (f : Nat → Nat) (x0 x1 x8 : Int32) : Prop := (((¬ x8 ≤ 0 ∧ x1 = 1) ∨ (¬ 0 ≤ x8 ∧ x1 = 0)) → nI (qv_sm f 4) = (1 : Int32) <<< (x0 &&& 31)) ∧ (¬ ((¬ x8 ≤ 0 ∧ x1 = 1) ∨ (¬ 0 ≤ x8 ∧ x1 = 0)) → nI (qv_sm f 4) = 0)
abbrev qv_N (f : Nat → Nat) (x8 : Int32) : Prop := (x8 = 0 → nI (qv_cnt f 4) = 16) ∧ (¬ x8 = 0 → nI (qv_cnt f 4) = 8)
abbrev qv_v (f : Nat → Nat) (t : Nat) : Int32 := 2 * qv_R (max (f (2 * t)) (f (2 * t + 1)))
abbrev qv_T (f : Nat → Nat) (x0 x5 x8 : Int32) : Prop := ∀ t, t < 4 → (x5 = 0 → qv_v f t = 0) ∧ (nI t = x0 → x8 ≤ 0 → qv_v f t = 0) ∧ (¬ x5 = 0 → nI t = x0 → ¬ x8 ≤ 0 → qv_v f t = 2 * x8) ∧ (¬ nI t = x0 → qv_v f t = 0)
theorem qv_tA1 : ∀ s, s < 4 → ∀ a, a < 2 → ∀ n, n < 41 → ¬ qv_R n ≤ 0 → nI a = 1 → nI (qv_sm (qv_f (2 * s + a) n) 4) = (1 : Int32) <<< (nI s &&& 31) := by decide +kernel
theorem qv_tA2 : ∀ s, s < 4 → ∀ a, a < 2 → ∀ n, n < 41 → ¬ 0 ≤ qv_R n → nI a = 0 → nI (qv_sm (qv_f (2 * s + a) n) 4) = (1 : Int32) <<< (nI s &&& 31) := by decide +kernel
theorem qv_tA3a : ∀ s, s < 4 → ∀ a, a < 2 → ∀ n, n < 41 → qv_R n ≤ 0 → 0 ≤ qv_R n → nI (qv_sm (qv_f (2 * s + a) n) 4) = 0 := by decide +kernel
theorem qv_a01 : ∀ a, a < 2 → ¬ nI a = 0 → a = 1 := by decide +kernel
theorem qv_tA3b : ∀ s, s < 4 → ∀ n, n < 41 → qv_R n ≤ 0 → nI (qv_sm (qv_f (2 * s + 1) n) 4) = 0 := by decide +kernel
theorem qv_tA3c : ∀ s, s < 4 → ∀ a, a < 2 → ∀ n, n < 41 → ¬ nI a = 1 → 0 ≤ qv_R n → nI (qv_sm (qv_f (2 * s + a) n) 4) = 0 := by decide +kernel
theorem qv_tA3 (s : Nat) (hs : s < 4) (a : Nat) (ha : a < 2) (n : Nat) (hn : n < 41) (h1 : ¬ (¬ qv_R n ≤ 0 ∧ nI a = 1)) (h2 : ¬ (¬ 0 ≤ qv_R n ∧ nI a = 0)) : nI (qv_sm (qv_f (2 * s + a) n) 4) = 0 := by
  by_cases e1 : qv_R n ≤ 0
  · by_cases e2 : 0 ≤ qv_R n
    · exact qv_tA3a s hs a ha n hn e1 e2
    · rw [qv_a01 a ha (fun z => h2 ⟨e2, z⟩)]
      exact qv_tA3b s hs n hn e1
  · by_cases e2 : 0 ≤ qv_R n
    · exact qv_tA3c s hs a ha n hn (fun z => h1 ⟨e1, z⟩) e2
    · have e := qv_a01 a ha (fun z => h2 ⟨e2, z⟩)
      exact absurd ⟨e1, by rw [e]; rfl⟩ h1
theorem qv_tA (s : Nat) (hs : s < 4) (a : Nat) (ha : a < 2) (n : Nat) (hn : n < 41) : qv_A (qv_f (2 * s + a) n) (nI s) (nI a) (qv_R n) :=
  ⟨fun h => h.elim (fun z => qv_tA1 s hs a ha n hn z.1 z.2) (fun z => qv_tA2 s hs a ha n hn z.1 z.2), fun h => qv_tA3 s hs a ha n hn (fun z => h (Or.inl z)) (fun z => h (Or.inr z))⟩
theorem qv_tN : ∀ s, s < 4 → ∀ a, a < 2 → ∀ n, n < 41 → qv_N (qv_f (2 * s + a) n) (qv_R n) := by decide +kernel
theorem qv_tT2 : ∀ s, s < 4 → ∀ a, a < 2 → ∀ n, n < 41 → qv_R n ≤ 0 → qv_v (qv_f (2 * s + a) n) s = 0 := by decide +kernel
theorem qv_tT3 : ∀ s, s < 4 → ∀ a, a < 2 → ∀ n, n < 41 → ¬ qv_R n ≤ 0 → qv_v (qv_f (2 * s + a) n) s = 2 * qv_R n := by decide +kernel
theorem qv_tT4 : ∀ s, s < 4 → ∀ a, a < 2 → ∀ n, n < 41 → ∀ t, t < 4 → ¬ nI t = nI s → qv_v (qv_f (2 * s + a) n) t = 0 := by decide +kernel
theorem qv_tT (s : Nat) (hs : s < 4) (a : Nat) (ha : a < 2) (n : Nat) (hn : n < 41) : qv_T (qv_f (2 * s + a) n) (nI s) 1 (qv_R n) := by
  intro t ht
  have e : nI t = nI s → t = s := fun z => (nI_eq (by omega) (by omega)).mp z
  exact ⟨fun z => absurd z (by decide), fun z y => by rw [e z]; exact qv_tT2 s hs a ha n hn y, fun _ z y => by rw [e z]; exact qv_tT3 s hs a ha n hn y, qv_tT4 s hs a ha n hn t ht⟩
theorem qv_tV : ∀ s, s < 4 → ∀ a, a < 2 → ∀ n, n < 41 → ∀ m, m < 16 → ∀ t, t < 4 → (t = s → qv_b m s = a → qv_g (qv_f (2 * s + a) n) m t = n) ∧ (¬ (t = s ∧ qv_b m s = a) → qv_g (qv_f (2 * s + a) n) m t = 20) := by
  intro s hs a ha n hn m hm t ht
  have hb := qv_b2 m t
  unfold qv_g qv_f
  constructor
  · intro e h
    rw [if_pos (by rw [e, h])]
  · intro h
    rw [if_neg]
    intro z
    have e : t = s := by omega
    refine h ⟨e, ?_⟩
    rw [← e]
    omega
theorem qv_uA (x0 x1 : Int32) : qv_A (qv_f 0 20) x0 x1 0 :=
  ⟨fun h => h.elim (fun z => absurd (by decide) z.1) (fun z => absurd (by decide) z.1), fun _ => by decide +kernel⟩
theorem qv_uN : qv_N (qv_f 0 20) 0 := by decide +kernel
theorem qv_uV : ∀ t, t < 4 → qv_v (qv_f 0 20) t = 0 := by decide +kernel
theorem qv_uT (x0 : Int32) : qv_T (qv_f 0 20) x0 0 0 :=
  fun t ht => ⟨fun _ => qv_uV t ht, fun _ _ => qv_uV t ht, fun z => absurd rfl z, fun _ => qv_uV t ht⟩
theorem qv_f20 (j : Nat) : qv_f 0 20 j = 20 := by
  unfold qv_f
  split <;> rfl
/-! the law's tail -/
theorem qv_293 {mc ms kc ks : Nat} {x0 x1 x8 : Int32} {f : Nat → Nat} (hA : qv_A f x0 x1 x8) (hn : ¬ (¬ x8 ≤ 0 ∧ x1 = 1)) :
    wL_lawOf_293 (fun r _ => r = 1) mc ms x0 x1 x8 (nI (qv_sm f 4)) kc ks :=
  br_c (fun e => br_t (hA.2 (fun z => z.elim hn (fun y => y.1 e))) rfl)
    (fun e => br_c (fun e1 => br_t (hA.1 (Or.inr ⟨e, e1⟩)) rfl) (fun e1 => br_t (hA.2 (fun z => z.elim hn (fun y => e1 y.2))) rfl))
theorem qv_273 {mc ms kc ks : Nat} {x0 x1 x8 z0 z1 : Int32} {c0 c1 c4 : Int64} {c2 c3 : Int32} {a1 a2 a7 : Nat → Int32} {a3 a4 a5 a6 : Nat → Int64} {f : Nat → Nat}
    (hK : qv_K f c2 c4 a1 a2 a6 a7) (hA : qv_A f x0 x1 x8) (hz : z1 = z0) :
    wL_lawOf_273 (fun r _ => r = 1) mc ms x0 x1 x8 z0 z1 kc ks c0 c1 c2 c3 c4 a1 a2 a3 a4 a5 a6 a7 := by
  refine br_t hz (qv_policy hK (fun _ _ _ _ _ _ _ _ _ => ?_))
  exact br_c (fun e => qv_293 hA (fun z => z.1 e)) (fun e => br_c (fun e1 => br_t (hA.1 (Or.inl ⟨e, e1⟩)) rfl) (fun e1 => qv_293 hA (fun z => e1 z.2)))
theorem qv_251 {mc ms kc ks : Nat} {x0 x1 x8 z0 z1 : Int32} {c0 c1 c4 : Int64} {c2 c3 : Int32} {a1 a2 a7 : Nat → Int32} {a3 a4 a5 a6 : Nat → Int64} {f : Nat → Nat}
    (hK : qv_K f c2 c4 a1 a2 a6 a7) (hA : qv_A f x0 x1 x8) (hN : qv_N f x8) (hz : z1 = z0) :
    wL_lawOf_251 (fun r _ => r = 1) mc ms x0 x1 x8 z0 z1 kc ks c0 c1 c2 c3 c4 a1 a2 a3 a4 a5 a6 a7 := by
  refine br_t hz (qv_policies hK (fun _ _ _ _ _ _ _ _ hK' => ?_))
  exact br_c (fun e => qv_273 hK' hA (hN.1 e)) (fun e => qv_273 hK' hA (hN.2 e))
theorem qv_34 {x : Int32} (h : 4 ≤ x) : 3 < x := by
  have h' := Int32.le_iff_toInt_le.mp h
  rw [show (4 : Int32).toInt = 4 from rfl] at h'
  refine Int32.lt_iff_toInt_lt.mpr ?_
  rw [show (3 : Int32).toInt = 3 from rfl]
  omega
theorem qv_43 {x : Int32} (h : 3 < x) : 4 ≤ x := by
  have h' := Int32.lt_iff_toInt_lt.mp h
  rw [show (3 : Int32).toInt = 3 from rfl] at h'
  refine Int32.le_iff_toInt_le.mpr ?_
  rw [show (4 : Int32).toInt = 4 from rfl]
  omega
theorem qv_187 {mc ms kc ks : Nat} {x0 x1 x4 x5 x8 z0 z1 : Int32} {c0 c1 c4 : Int64} {c2 c3 : Int32} {a1 a2 a7 : Nat → Int32} {a3 a4 a5 a6 : Nat → Int64} {f : Nat → Nat}
    (hK : qv_K f c2 c4 a1 a2 a6 a7) (hA : qv_A f x0 x1 x8) (hN : qv_N f x8) (hT : qv_T f x0 x5 x8) (hz : z1 = z0) :
    wL_lawOf_187 (fun r _ => r = 1) mc ms x0 x1 x4 x5 x8 z0 z1 kc ks c0 c1 c2 c3 c4 a1 a2 a3 a4 a5 a6 a7 := by
  have bad : (x4 < 0 ∨ 4 ≤ x4) → wL_lawOf_207 (fun r _ => r = 1) mc ms x0 x1 x4 x5 x8 kc ks c0 c1 c2 c3 c4 a1 a2 a3 a4 a5 a6 a7 := by
    intro h
    unfold wL_lawOf_207 wL_lawOf_208
    exact qv_bTopN h (br_t rfl (qv_251 hK hA hN rfl))
  refine br_t hz (br_c (fun e => bad (Or.inl e)) (fun e => br_c (fun e3 => bad (Or.inr (qv_43 e3))) (fun e3 => ?_)))
  rcases pk_ix x4 (n := 4) (by omega) with h | h | ⟨t, ht, h⟩
  · exact absurd h e
  · exact absurd (qv_34 h) e3
  · rw [h]
    obtain ⟨t1, t2, t3, t4⟩ := hT t ht
    unfold wL_lawOf_208
    refine qv_bTop ht hK (fun _ _ _ _ _ _ _ _ hK' => br_f (by decide) ?_)
    exact br_c (fun e5 => qv_251 hK' hA hN (t1 e5)) (fun e5 => br_c (fun e0 => br_c (fun e8 => qv_251 hK' hA hN (t2 e0 e8)) (fun e8 => qv_251 hK' hA hN (t3 e5 e0 e8))) (fun e0 => qv_251 hK' hA hN (t4 e0)))
theorem qv_163 {mc ms kc ks : Nat} {x0 x1 x3 x4 x5 x6 x8 z0 z1 : Int32} {c0 c1 c4 : Int64} {c2 c3 : Int32} {a1 a2 a7 : Nat → Int32} {a3 a4 a5 a6 : Nat → Int64} {f : Nat → Nat}
    (hK : qv_K f c2 c4 a1 a2 a6 a7) (hA : qv_A f x0 x1 x8) (hN : qv_N f x8) (hT : qv_T f x0 x5 x8) (hz : z1 = z0)
    (hQ : (x6 = 0 ∧ (x3 < 0 ∨ 15 < x3 ∨ x4 < 0 ∨ 4 ≤ x4)) ∨ (x6 = 1 ∧ ∃ m t : Nat, m < 16 ∧ t < 4 ∧ x3 = nI m ∧ x4 = nI t)) :
    wL_lawOf_163 (fun r _ => r = 1) mc ms x0 x1 x3 x4 x5 x6 x8 z0 z1 kc ks c0 c1 c2 c3 c4 a1 a2 a3 a4 a5 a6 a7 := by
  refine br_t hz ?_
  rcases hQ with ⟨h6, h⟩ | ⟨h6, m, t, hm, ht, h3, h4⟩
  · exact qv_vBotN h (br_t h6 (qv_187 hK hA hN hT rfl))
  · rw [h6, h3, h4]
    exact qv_vBot hm ht hK (fun _ _ _ => br_f (by decide) (qv_187 hK hA hN hT rfl))
theorem qv_107 {x0 x1 x2 x3 x4 x5 x6 x7 x8 : Int32} {f : Nat → Nat}
    (hR : ∀ (a2 : Nat → Int32) (post : Int32 → St2 → Prop), (∀ a1, qv_W f a1 → post x5 (0, 0, 0, 0, 0, a1, a2, (fun _ => 0), (fun _ => 0), (fun _ => 0), (fun _ => 0), (fun _ => 0))) → wpX_reward post (0, 0, 0, 0, 0, (fun _ => 0), a2, (fun _ => 0), (fun _ => 0), (fun _ => 0), (fun _ => 0), (fun _ => 0)) x0 x1 x2)
    (hA : qv_A f x0 x1 x8) (hN : qv_N f x8) (hT : qv_T f x0 x5 x8)
    (hQ : (x6 = 0 ∧ (x3 < 0 ∨ 15 < x3 ∨ x4 < 0 ∨ 4 ≤ x4)) ∨ (x6 = 1 ∧ ∃ m t : Nat, m < 16 ∧ t < 4 ∧ x3 = nI m ∧ x4 = nI t ∧ (x7 = 0 → 2 * qv_R (qv_g f m t) = 0) ∧ (¬ x7 = 0 → 2 * qv_R (qv_g f m t) = 2 * x2))) :
    wL_lawOf_107 (fun r _ => r = 1) 62 976 x0 x1 x2 x3 x4 x5 x6 x7 x8 0 0 := by
  refine ⟨by omega, by omega, 7, 76, by omega, by omega, ?_⟩
  refine qv_init (by omega) (by omega) (fun a2 hS => ?_)
  refine hR a2 _ (fun a1 hW => ?_)
  refine br_t rfl ?_
  have hK : qv_K f 0 0 a1 a2 (fun _ => 0) (fun _ => 0) := ⟨hW, hS, Or.inl rfl⟩
  rcases hQ with ⟨h6, h⟩ | ⟨h6, m, t, hm, ht, h3, h4, h7, h7'⟩
  · exact qv_vTopN h (br_t h6 (qv_163 hK hA hN hT rfl (Or.inl ⟨h6, h⟩)))
  · rw [h6, h3, h4]
    refine qv_vTop hm ht hK (fun _ _ _ => br_f (by decide) ?_)
    have q : (1 : Int32) = 0 ∧ (nI m < 0 ∨ 15 < nI m ∨ nI t < 0 ∨ 4 ≤ nI t) ∨ (1 : Int32) = 1 ∧ ∃ m' t' : Nat, m' < 16 ∧ t' < 4 ∧ nI m = nI m' ∧ nI t = nI t' := Or.inr ⟨rfl, m, t, hm, ht, rfl, rfl⟩
    exact br_c (fun e => qv_163 hK hA hN hT (h7 e) q) (fun e => qv_163 hK hA hN hT (h7' e) q)
/-! the law's head -/
theorem qv_code {x : Int32} (h1 : ¬ x < (-20)) (h2 : ¬ 20 < x) : ∃ n : Nat, n < 41 ∧ x = qv_R n := by
  rw [Int32.lt_iff_toInt_lt, show (-20 : Int32).toInt = -20 from rfl] at h1
  rw [Int32.lt_iff_toInt_lt, show (20 : Int32).toInt = 20 from rfl] at h2
  refine ⟨(x.toInt + 20).toNat, by omega, Int32.toInt_inj.mp ?_⟩
  unfold qv_R
  rw [show (20 : Int32) = nI 20 from rfl, pk_sub_toInt (by omega) (by omega)]
  omega
theorem qv_lawOf {post : Int32 → St0 → Prop} {mc ms : Nat} {p0 p1 p2 p3 p4 : Int32}
    (hN : (p0 < 0 ∨ 3 < p0 ∨ p1 < 0 ∨ 1 < p1 ∨ p2 < (-20) ∨ 20 < p2) → wL_lawOf_35 post mc ms p0 p1 p2 p3 p4 0 0 0)
    (hP : ¬ p0 < 0 → ¬ 3 < p0 → ¬ p1 < 0 → ¬ 1 < p1 → ¬ p2 < (-20) → ¬ 20 < p2 → wL_lawOf_35 post mc ms p0 p1 p2 p3 p4 1 0 0) :
    wpL_lawOf post mc ms () p0 p1 p2 p3 p4 :=
  br_c (fun e => hN (Or.inl e)) (fun e0 => br_c (fun e => hN (Or.inr (Or.inl e))) (fun e1 => br_c (fun e => hN (Or.inr (Or.inr (Or.inl e)))) (fun e2 => br_c (fun e => hN (Or.inr (Or.inr (Or.inr (Or.inl e))))) (fun e3 => br_c (fun e => hN (Or.inr (Or.inr (Or.inr (Or.inr (Or.inl e)))))) (fun e4 => br_c (fun e => hN (Or.inr (Or.inr (Or.inr (Or.inr (Or.inr e)))))) (fun e5 => hP e0 e1 e2 e3 e4 e5))))))
theorem qv_35 {post : Int32 → St0 → Prop} {mc ms : Nat} {x0 x1 x2 x3 x4 z : Int32}
    (hN : (x3 < 0 ∨ 15 < x3 ∨ x4 < 0 ∨ 4 ≤ x4) → wL_lawOf_63 post mc ms x0 x1 x2 x3 x4 z 0 0 0)
    (hP : ∀ m t : Nat, m < 16 → t < 4 → x3 = nI m → x4 = nI t → wL_lawOf_63 post mc ms x0 x1 x2 x3 x4 z 1 0 0) :
    wL_lawOf_35 post mc ms x0 x1 x2 x3 x4 z 0 0 := by
  refine br_c (fun e => hN (Or.inl e)) (fun e0 => br_c (fun e => hN (Or.inr (Or.inl e))) (fun e1 => br_c (fun e => hN (Or.inr (Or.inr (Or.inl e)))) (fun e2 => br_c (fun e => hN (Or.inr (Or.inr (Or.inr (qv_43 e))))) (fun e3 => ?_))))
  rcases pk_ix x4 (n := 4) (by omega) with h | h | ⟨t, ht, h⟩
  · exact absurd h e2
  · exact absurd (qv_34 h) e3
  · obtain ⟨m, hm, h'⟩ := nI_of e0
    refine hP m t ?_ ht h' h
    rw [h'] at e1
    rcases Nat.lt_or_ge m 16 with z | z
    · exact z
    · exact absurd (nI_lt (a := 15) (b := m) (by omega) (by omega)) e1
theorem qv_law (p0 p1 p2 p3 p4 : Int32) : wpL_lawOf (fun r _ => r = 1) 62 976 () p0 p1 p2 p3 p4 := by
  refine qv_lawOf (fun h => ?_) (fun h0 h1 h2 h3 h4 h5 => ?_)
  · -- no reward is put
    have hR : ∀ (a2 : Nat → Int32) (post : Int32 → St2 → Prop), (∀ a1, qv_W (qv_f 0 20) a1 → post 0 (0, 0, 0, 0, 0, a1, a2, (fun _ => 0), (fun _ => 0), (fun _ => 0), (fun _ => 0), (fun _ => 0))) → wpX_reward post (0, 0, 0, 0, 0, (fun _ => 0), a2, (fun _ => 0), (fun _ => 0), (fun _ => 0), (fun _ => 0), (fun _ => 0)) p0 p1 p2 := by
      intro a2 post H
      refine qv_rewN ?_ (H _ (fun j _ => ?_))
      · rcases h with z | z | z | z | z | z
        · exact Or.inl z
        · exact Or.inr (Or.inl (qv_43 z))
        · exact Or.inr (Or.inr (Or.inl z))
        · exact Or.inr (Or.inr (Or.inr (Or.inl z)))
        · exact Or.inr (Or.inr (Or.inr (Or.inr (Or.inl z))))
        · refine Or.inr (Or.inr (Or.inr (Or.inr (Or.inr (fun y => ?_)))))
          have z' := Int32.lt_iff_toInt_lt.mp z
          have y' := Int32.le_iff_toInt_le.mp y
          omega
      · rw [qv_f20 j]
        exact ⟨by omega, qv_R20.symm⟩
    refine qv_35 (fun hq => ?_) (fun m t hm ht e3 e4 => ?_)
    · refine br_t rfl (br_t rfl (qv_107 hR (qv_uA _ _) qv_uN (qv_uT _) (Or.inl ⟨rfl, hq⟩)))
    · refine br_t rfl (br_t rfl (qv_107 hR (qv_uA _ _) qv_uN (qv_uT _) (Or.inr ⟨rfl, m, t, hm, ht, e3, e4, fun _ => ?_, fun z => absurd rfl z⟩)))
      unfold qv_g
      rw [qv_f20]
      decide +kernel
  · -- the reward is put
    obtain ⟨n, hn, e2⟩ := qv_code h4 h5
    obtain ⟨s, hs, e0⟩ := nI_of2 (M := 3) (n := 3) rfl h0 (by
      rw [Int32.le_iff_toInt_le]
      rw [Int32.lt_iff_toInt_lt] at h1
      omega)
    obtain ⟨a, ha, e1⟩ := nI_of2 (M := 1) (n := 1) rfl h2 (by
      rw [Int32.le_iff_toInt_le]
      rw [Int32.lt_iff_toInt_lt] at h3
      omega)
    rw [e0, e1, e2]
    have hs' : s < 4 := by omega
    have ha' : a < 2 := by omega
    have hR : ∀ (a2 : Nat → Int32) (post : Int32 → St2 → Prop), (∀ a1, qv_W (qv_f (2 * s + a) n) a1 → post 1 (0, 0, 0, 0, 0, a1, a2, (fun _ => 0), (fun _ => 0), (fun _ => 0), (fun _ => 0), (fun _ => 0))) → wpX_reward post (0, 0, 0, 0, 0, (fun _ => 0), a2, (fun _ => 0), (fun _ => 0), (fun _ => 0), (fun _ => 0), (fun _ => 0)) (nI s) (nI a) (qv_R n) :=
      fun a2 post H => qv_rewP hs' ha' hn H
    have A := qv_tA s hs' a ha' n hn
    have N := qv_tN s hs' a ha' n hn
    have T := qv_tT s hs' a ha' n hn
    have one : ¬ (1 : Int32) = 0 := by decide
    refine qv_35 (fun hq => ?_) (fun m t hm ht e3 e4 => ?_)
    · exact br_f one (br_t rfl (br_f one (qv_107 hR A N T (Or.inl ⟨rfl, hq⟩))))
    · obtain ⟨v1, v2⟩ := qv_tV s hs' a ha' n hn m hm t ht
      have z20 : 2 * qv_R 20 = 0 := by decide +kernel
      have off : ¬ (t = s ∧ qv_b m s = a) → wL_lawOf_94 (fun r _ => r = 1) 62 976 (nI s) (nI a) (qv_R n) p3 p4 1 1 0 0 := fun y =>
        br_f one (qv_107 hR A N T (Or.inr ⟨rfl, m, t, hm, ht, e3, e4, fun _ => by rw [v2 y]; exact z20, fun z => absurd rfl z⟩))
      refine br_f one (br_f one (br_c (fun e => br_c (fun d => ?_) (fun d => ?_)) (fun e => ?_)))
      · rw [e4] at e
        have ts : t = s := (nI_eq (by omega) (by omega)).mp e
        rw [e3, qv_bit m hm s hs'] at d
        have bs : qv_b m s = a := (nI_eq (by have := qv_b2 m s; omega) (by omega)).mp d
        exact br_f one (qv_107 hR A N T (Or.inr ⟨rfl, m, t, hm, ht, e3, e4, fun z => absurd z one, fun _ => by rw [v1 ts bs]⟩))
      · refine off (fun y => d ?_)
        rw [e3, qv_bit m hm s hs', y.2]
      · refine off (fun y => e ?_)
        rw [e4, y.1]
theorem qv_cell {post : Int32 → Prop} {L : Nat} {xs : Nat → Int32} (hL : L ≤ 5) (k : Nat) (hk : k < 5) (H : ∀ r, post r) : wpL_cellAt post L xs () (nI k) :=
  pk_le L k (fun _ => H _) (fun z => ⟨pk_in k L z, H _⟩)
end
section
theorem i_vc (xs : Nat → Int32) (L : Nat) (hL : L ≤ 5) : wpL_law (fun r => r = 1) L xs :=
  qv_cell hL 0 (by omega) (fun r1 => qv_cell hL 1 (by omega) (fun r2 => qv_cell hL 2 (by omega) (fun r3 => qv_cell hL 3 (by omega) (fun r4 => qv_cell hL 4 (by omega) (fun r5 => ⟨62, 976, by omega, by omega, qv_law r1 r2 r3 r4 r5⟩)))))
end
