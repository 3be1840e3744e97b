section
variable {w h : Int32} {a1 a2 a3 a4 a5 a6 a7 a8 a9 a10 a11 : Nat → Int32}
variable {kd ix iy : Nat → Nat} {nm : Nat → Int32} {str : Nat → Nat → Int32} {Q : Nat → Nat → Nat → Nat → Prop}
variable {md rx ry : Nat → Nat}
/-- ints by integers -/
def pn_z (z : Int) : Int32 := Int32.ofInt z
theorem pn_z_n (n : Nat) : nI n = pn_z n := (Int32.ofInt_eq_ofNat (n := n)).symm
theorem pn_z_add (a b : Int) : pn_z a + pn_z b = pn_z (a + b) := (Int32.ofInt_add a b).symm
theorem pn_z_sub (a b : Int) : pn_z a - pn_z b = pn_z (a - b) := (Int32.ofInt_sub a b).symm
theorem pn_z_mul (a b : Int) : pn_z a * pn_z b = pn_z (a * b) := (Int32.ofInt_mul a b).symm
theorem pn_z_int {z : Int} (h : -2000000 ≤ z) (h' : z ≤ 2000000) : (pn_z z).toInt = z := Int32.toInt_ofInt_of_le (by omega) (by omega)
theorem pn_z_lt {a b : Int} (ha : -2000000 ≤ a) (ha' : a ≤ 2000000) (hb : -2000000 ≤ b) (hb' : b ≤ 2000000) : pn_z a < pn_z b ↔ a < b := by
  rw [Int32.lt_iff_toInt_lt, pn_z_int ha ha', pn_z_int hb hb']
theorem pn_z_le {a b : Int} (ha : -2000000 ≤ a) (ha' : a ≤ 2000000) (hb : -2000000 ≤ b) (hb' : b ≤ 2000000) : pn_z a ≤ pn_z b ↔ a ≤ b := by
  rw [Int32.le_iff_toInt_le, pn_z_int ha ha', pn_z_int hb hb']
theorem pn_z_eq {a b : Int} (ha : -2000000 ≤ a) (ha' : a ≤ 2000000) (hb : -2000000 ≤ b) (hb' : b ≤ 2000000) : pn_z a = pn_z b ↔ a = b := by
  rw [← Int32.toInt_inj, pn_z_int ha ha', pn_z_int hb hb']
theorem pn_z_odd (z : Int) : pn_z z &&& 1 = 1 ↔ z % 2 = 1 := by
  have e : (pn_z z).toBitVec.toNat = (z % 4294967296).toNat := by
    show (BitVec.ofInt 32 z).toNat = _
    rw [BitVec.toNat_ofInt]
    rfl
  have e1 : (1 : Int32) = nI 1 := rfl
  have e2 : pn_z z &&& 1 = nI ((pn_z z).toBitVec.toNat % 2 ^ 1) := pk_and (pn_z z) 1 (by decide)
  rw [e2, e1, nI_eq (by omega) (by omega), e]
  omega
/-- naturals by place -/
def pn_up (f : Nat → Nat) (p v : Nat) : Nat → Nat := fun q => if q = p then v else f q
theorem pn_up_s {f : Nat → Nat} {p v : Nat} : pn_up f p v p = v := if_pos rfl
theorem pn_up_n {f : Nat → Nat} {p v q : Nat} (h : q ≠ p) : pn_up f p v q = f q := if_neg h
theorem pn_up_nI {f : Nat → Nat} {g : Nat → Int32} {p v : Nat} (hg : ∀ q, q < 8 → g q = nI (f q)) : ∀ q, q < 8 → upd g p (nI v) q = nI (pn_up f p v q) := by
  intro q hq
  by_cases e : q = p
  · rw [e, pk_us, pn_up_s]
  · rw [pk_un e, pn_up_n e]
    exact hg q hq
theorem pn_up_id {f : Nat → Nat} {g : Nat → Int32} {p : Nat} (hg : ∀ q, q < 8 → g q = nI (f q)) : ∀ q, q < 8 → g q = nI (pn_up f p (f p) q) := by
  intro q hq
  by_cases e : q = p
  · rw [e, pn_up_s, ← e]
    exact hg q hq
  · rw [pn_up_n e]
    exact hg q hq
theorem pn_len8 {l : List Nat} (h : l.Nodup) (h8 : ∀ q, q ∈ l → q < 8) : l.length ≤ 8 := by
  have := List.Nodup.length_le_of_subset (l₂ := List.range 8) h (fun q hq => List.mem_range.mpr (h8 q hq))
  rw [List.length_range] at this
  exact this
/-- the ring holds the list l -/
def pn_R (l : List Nat) (w h : Int32) (a10 a11 : Nat → Int32) : Prop :=
  l.Nodup ∧ (∀ q, q ∈ l → q < 8) ∧ w = nI l.length ∧ (∃ hd, hd < 8 ∧ h = nI hd ∧ ∀ k, k < l.length → a10 ((hd + k) % 8) = nI (l.getD k 0)) ∧ (∀ q, q < 8 → a11 q = if q ∈ l then 1 else 0)
theorem pn_R_0 (h11 : ∀ q, q < 8 → a11 q = 0) : pn_R [] 0 0 a10 a11 :=
  ⟨List.nodup_nil, fun q hq => absurd hq (List.not_mem_nil), rfl, ⟨0, by omega, rfl, fun k hk => absurd hk (Nat.not_lt_zero k)⟩, fun q hq => by rw [if_neg List.not_mem_nil]; exact h11 q hq⟩
theorem pn_R_len {l : List Nat} (hR : pn_R l w h a10 a11) : l.length ≤ 8 := pn_len8 hR.1 hR.2.1
theorem pn_R_push {l : List Nat} {p : Nat} (hR : pn_R l w h a10 a11) (hp : p < 8) (hl : p ∉ l) : pn_R (l ++ [p]) (w + 1) h (upd a10 ((h + w) &&& 7).toNatClampNeg (nI p)) (upd a11 p 1) := by
  obtain ⟨r1, r2, r3, ⟨hd, r4, r5, r6⟩, r7⟩ := hR
  have n1 : (l ++ [p]).Nodup := by
    rw [List.nodup_append]
    refine ⟨r1, List.nodup_cons.mpr ⟨List.not_mem_nil, List.nodup_nil⟩, fun a ha b hb => ?_⟩
    rw [List.mem_singleton] at hb
    exact fun z => hl (by rw [← hb, ← z]; exact ha)
  have n2 : ∀ q, q ∈ l ++ [p] → q < 8 := by
    intro q hq
    rcases List.mem_append.mp hq with z | z
    · exact r2 q z
    · rw [List.mem_singleton] at z
      omega
  have n3 : (l ++ [p]).length ≤ 8 := pn_len8 n1 n2
  have n4 : (l ++ [p]).length = l.length + 1 := by rw [List.length_append]; rfl
  have ei : ((h + w) &&& 7).toNatClampNeg = (hd + l.length) % 8 := by
    rw [r3, r5, nI_add, pk_andN (n := hd + l.length) (by omega) (m := 7) 3 (by decide)]
    exact nI_clamp (by omega)
  refine ⟨n1, n2, ?_, ⟨hd, r4, r5, fun k hk => ?_⟩, fun q hq => ?_⟩
  · rw [n4, r3, nI_1]
  · rw [ei]
    by_cases e : k = l.length
    · subst e
      rw [pk_us, List.getD_eq_getElem?_getD, List.getElem?_append_right (Nat.le_refl _), Nat.sub_self]
      rfl
    · rw [pk_un (by omega), r6 k (by omega), List.getD_eq_getElem?_getD, List.getD_eq_getElem?_getD, List.getElem?_append_left (by omega)]
  · by_cases e : q = p
    · rw [e, pk_us, if_pos (List.mem_append.mpr (Or.inr (List.mem_singleton.mpr rfl)))]
    · rw [pk_un e, r7 q hq]
      by_cases z : q ∈ l
      · rw [if_pos z, if_pos (List.mem_append.mpr (Or.inl z))]
      · rw [if_neg z, if_neg (fun y => (List.mem_append.mp y).elim z (fun t => e (List.mem_singleton.mp t)))]
theorem pn_R_pop {l : List Nat} {p : Nat} (hR : pn_R (p :: l) w h a10 a11) : p < 8 ∧ p ∉ l ∧ vp_in h 8 ∧ a10 h.toNatClampNeg = nI p ∧ w = nI (l.length + 1) ∧ pn_R l (w - 1) ((h + 1) &&& 7) a10 (upd a11 p 0) := by
  obtain ⟨r1, r2, r3, ⟨hd, r4, r5, r6⟩, r7⟩ := hR
  have n := List.nodup_cons.mp r1
  have lc : (p :: l).length = l.length + 1 := rfl
  have l8 : l.length ≤ 8 := pn_len8 n.2 (fun q hq => r2 q (List.mem_cons_of_mem _ hq))
  refine ⟨r2 p List.mem_cons_self, n.1, ?_, ?_, r3, n.2, fun q hq => r2 q (List.mem_cons_of_mem _ hq), ?_, ⟨(hd + 1) % 8, by omega, ?_, fun k hk => ?_⟩, fun q hq => ?_⟩
  · rw [r5]
    exact vp_in_nI r4 (by omega)
  · have := r6 0 (by omega)
    rw [Nat.add_zero, Nat.mod_eq_of_lt r4] at this
    rw [r5, nI_clamp (by omega), this]
    rfl
  · rw [r3, lc, nI_pred]
  · rw [r5, nI_1, pk_andN (n := hd + 1) (by omega) (m := 7) 3 (by decide)]
  · have := r6 (k + 1) (by omega)
    rw [show ((hd + 1) % 8 + k) % 8 = (hd + (k + 1)) % 8 by omega, this]
    rfl
  · by_cases e : q = p
    · rw [e, pk_us, if_neg n.1]
    · rw [pk_un e, r7 q hq]
      by_cases z : q ∈ l
      · rw [if_pos z, if_pos (List.mem_cons_of_mem _ z)]
      · rw [if_neg z, if_neg (fun y => (List.mem_cons.mp y).elim e z)]
theorem pn_wake {post : St2 → Prop} {l : List Nat} {p : Nat} (hp : p < 8) (hR : pn_R l w h a10 a11)
    (H : ∀ l' w' a10' a11', pn_R l' w' h a10' a11' → (∀ q, q ∈ l' ↔ (q ∈ l ∨ q = p)) → post (w', h, a1, a2, a3, a4, a5, a6, a7, a8, a9, a10', a11')) :
    wpX_wake post (w, h, a1, a2, a3, a4, a5, a6, a7, a8, a9, a10, a11) (nI p) := by
  have e : (nI p).toNatClampNeg = p := nI_clamp (by omega)
  have h11 := hR.2.2.2.2 p hp
  have hi : vp_in (nI p) 8 := vp_in_nI hp (by omega)
  unfold wpX_wake
  dsimp only
  rw [e]
  by_cases hl : p ∈ l
  · rw [if_pos hl] at h11
    exact ⟨hi, br_f (by rw [h11]; decide) (H l w a10 a11 hR (fun q => ⟨Or.inl, fun z => z.elim id (fun y => by rw [y]; exact hl)⟩))⟩
  · rw [if_neg hl] at h11
    refine ⟨hi, br_t h11 ⟨hi, nm_e ⟨pk_andIn _ 3 (by decide) (by decide), nm_e (nm_e ?_)⟩⟩⟩
    exact H (l ++ [p]) _ _ _ (pn_R_push hR hp hl) (fun q => by rw [List.mem_append, List.mem_singleton])
/-- the configuration -/
def pn_C (kd ix iy : Nat → Nat) (nm : Nat → Int32) (a1 a2 a3 a4 : Nat → Int32) : Prop :=
  ∀ p, p < 8 → a1 p = nI (kd p) ∧ a2 p = nI (ix p) ∧ a3 p = nI (iy p) ∧ a4 p = nm p ∧ kd p < 7 ∧ ix p < 8 ∧ iy p < 8
/-- how far all have come: the items made are those of the ideal streams -/
def pn_D (str : Nat → Nat → Int32) (Q : Nat → Nat → Nat → Nat → Prop) (md rx ry : Nat → Nat) (a5 a6 a7 a9 : Nat → Int32) : Prop :=
  ∀ p, p < 8 → a5 p = nI (md p) ∧ a6 p = nI (rx p) ∧ a7 p = nI (ry p) ∧ md p ≤ 40 ∧ rx p ≤ 40 ∧ ry p ≤ 40 ∧ Q p (md p) (rx p) (ry p) ∧ ∀ j, j < md p → a9 (p * 40 + j) = str p j
/-- one step of a process: none: it can't; some (what it makes, how far it has read) -/
def pn_go (k : Nat) (num : Int32) (sx sy : Nat → Int32) (lx ly m x y : Nat) : Option (Option Int32 × Nat × Nat) :=
  if 40 ≤ m then none else
  match k with
  | 0 => some (some (num + nI m), x, y)
  | 1 => if m < 5 then some (some (num * (2 * nI m + 1)), x, y) else none
  | 2 => if x < lx ∧ y < ly then some (some (sx x + sy y), x + 1, y + 1) else none
  | 3 => if m % 2 = 0 then (if x < lx then some (some (sx x), x + 1, y) else none) else (if y < ly then some (some (sy y), x, y + 1) else none)
  | 4 => if x < lx then (if sx x &&& 1 = 1 then some (some (sx x), x + 1, y) else some (none, x + 1, y)) else none
  | 5 => if m = 0 then some (some num, x, y) else (if x < lx then some (some (sx x), x + 1, y) else none)
  | _ => if x < lx ∧ y < ly then (if sy y < sx x then some (some (sy y), x, y + 1) else some (some (sx x), x + 1, y)) else none
theorem pn_go40 {k : Nat} {num : Int32} {sx sy : Nat → Int32} {lx ly m x y : Nat} (hm : 40 ≤ m) : pn_go k num sx sy lx ly m x y = none := if_pos hm
theorem pn_go_0 {num : Int32} {sx sy : Nat → Int32} {lx ly m x y : Nat} (hm : m < 40) : pn_go 0 num sx sy lx ly m x y = some (some (num + nI m), x, y) := if_neg (by omega)
theorem pn_go_1 {num : Int32} {sx sy : Nat → Int32} {lx ly m x y : Nat} (hm : m < 40) : pn_go 1 num sx sy lx ly m x y = if m < 5 then some (some (num * (2 * nI m + 1)), x, y) else none := if_neg (by omega)
theorem pn_go_2 {num : Int32} {sx sy : Nat → Int32} {lx ly m x y : Nat} (hm : m < 40) : pn_go 2 num sx sy lx ly m x y = if x < lx ∧ y < ly then some (some (sx x + sy y), x + 1, y + 1) else none := if_neg (by omega)
theorem pn_go_3 {num : Int32} {sx sy : Nat → Int32} {lx ly m x y : Nat} (hm : m < 40) : pn_go 3 num sx sy lx ly m x y = if m % 2 = 0 then (if x < lx then some (some (sx x), x + 1, y) else none) else (if y < ly then some (some (sy y), x, y + 1) else none) := if_neg (by omega)
theorem pn_go_4 {num : Int32} {sx sy : Nat → Int32} {lx ly m x y : Nat} (hm : m < 40) : pn_go 4 num sx sy lx ly m x y = if x < lx then (if sx x &&& 1 = 1 then some (some (sx x), x + 1, y) else some (none, x + 1, y)) else none := if_neg (by omega)
theorem pn_go_5 {num : Int32} {sx sy : Nat → Int32} {lx ly m x y : Nat} (hm : m < 40) : pn_go 5 num sx sy lx ly m x y = if m = 0 then some (some num, x, y) else (if x < lx then some (some (sx x), x + 1, y) else none) := if_neg (by omega)
theorem pn_go_6 {num : Int32} {sx sy : Nat → Int32} {lx ly m x y : Nat} (hm : m < 40) : pn_go 6 num sx sy lx ly m x y = if x < lx ∧ y < ly then (if sy y < sx x then some (some (sy y), x, y + 1) else some (some (sx x), x + 1, y)) else none := if_neg (by omega)
def pn_g (kd ix iy : Nat → Nat) (nm : Nat → Int32) (str : Nat → Nat → Int32) (md rx ry : Nat → Nat) (p : Nat) : Option (Option Int32 × Nat × Nat) :=
  pn_go (kd p) (nm p) (str (ix p)) (str (iy p)) (md (ix p)) (md (iy p)) (md p) (rx p) (ry p)
/-- the streams and the invariants of each agree with the steps -/
def pn_S (kd ix iy : Nat → Nat) (nm : Nat → Int32) (str : Nat → Nat → Int32) (Q : Nat → Nat → Nat → Nat → Prop) : Prop :=
  ∀ p lx ly m x y, p < 8 → (∃ s t, Q (ix p) lx s t) → (∃ s t, Q (iy p) ly s t) → Q p m x y →
    ∀ e x' y', pn_go (kd p) (nm p) (str (ix p)) (str (iy p)) lx ly m x y = some (e, x', y') →
      (∀ v, e = some v → str p m = v ∧ Q p (m + 1) x' y') ∧ (e = none → Q p m x' y')
theorem pn_D_put {a6' a7' : Nat → Int32} {p x' y' : Nat} {v : Int32} (hD : pn_D str Q md rx ry a5 a6 a7 a9) (hp : p < 8) (hm : md p < 40) (hx : x' ≤ 40) (hy : y' ≤ 40) (hv : str p (md p) = v) (hQ : Q p (md p + 1) x' y')
    (h6 : ∀ q, q < 8 → a6' q = nI (pn_up rx p x' q)) (h7 : ∀ q, q < 8 → a7' q = nI (pn_up ry p y' q)) :
    pn_D str Q (pn_up md p (md p + 1)) (pn_up rx p x') (pn_up ry p y') (upd a5 p (nI (md p + 1))) a6' a7' (upd a9 (p * 40 + md p) v) := by
  intro q hq
  obtain ⟨e5, e6, e7, b5, b6, b7, bq, bi⟩ := hD q hq
  by_cases e : q = p
  · subst e
    refine ⟨?_, h6 q hq, h7 q hq, ?_, ?_, ?_, ?_, fun j hj => ?_⟩
    · rw [pk_us, pn_up_s]
    · rw [pn_up_s]
      omega
    · rw [pn_up_s]
      exact hx
    · rw [pn_up_s]
      exact hy
    · rw [pn_up_s, pn_up_s, pn_up_s]
      exact hQ
    · rw [pn_up_s] at hj
      by_cases ej : j = md q
      · rw [ej, pk_us, hv]
      · rw [pk_un (by omega)]
        exact bi j (by omega)
  · refine ⟨?_, h6 q hq, h7 q hq, ?_, ?_, ?_, ?_, fun j hj => ?_⟩
    · rw [pk_un e, pn_up_n e]
      exact e5
    · rw [pn_up_n e]
      exact b5
    · rw [pn_up_n e]
      exact b6
    · rw [pn_up_n e]
      exact b7
    · rw [pn_up_n e, pn_up_n e, pn_up_n e]
      exact bq
    · rw [pn_up_n e] at hj
      rw [pk_un (by omega)]
      exact bi j hj
theorem pn_D_rd {a6' : Nat → Int32} {p x' : Nat} (hD : pn_D str Q md rx ry a5 a6 a7 a9) (hp : p < 8) (hx : x' ≤ 40) (hQ : Q p (md p) x' (ry p))
    (h6 : ∀ q, q < 8 → a6' q = nI (pn_up rx p x' q)) :
    pn_D str Q md (pn_up rx p x') ry a5 a6' a7 a9 := by
  intro q hq
  obtain ⟨e5, e6, e7, b5, b6, b7, bq, bi⟩ := hD q hq
  by_cases e : q = p
  · subst e
    refine ⟨e5, h6 q hq, e7, b5, ?_, b7, ?_, bi⟩
    · rw [pn_up_s]
      exact hx
    · rw [pn_up_s]
      exact hQ
  · refine ⟨e5, h6 q hq, e7, b5, ?_, b7, ?_, bi⟩
    · rw [pn_up_n e]
      exact b6
    · rw [pn_up_n e]
      exact bq
end
section
variable {w h : Int32} {a1 a2 a3 a4 a5 a6 a7 a8 a9 a10 a11 : Nat → Int32}
variable {kd ix iy : Nat → Nat} {nm : Nat → Int32} {str : Nat → Nat → Int32} {Q : Nat → Nat → Nat → Nat → Prop}
variable {md rx ry : Nat → Nat} {p : Nat}
theorem pn_at (a b : Nat) : nI a * 40 + nI b = nI (a * 40 + b) := by
  have e : (40 : Int32) = nI 40 := rfl
  rw [e, pk_mul, nI_add]
theorem pn_hasX {post : Int32 → Prop} {X m x : Nat} (hp : p < 8) (hX : X < 8) (h2 : a2 p = nI X) (h5 : a5 X = nI m) (h6 : a6 p = nI x) (hm : m ≤ 40) (hx : x ≤ 40) (H1 : x < m → post 1) (H0 : ¬ x < m → post 0) :
    wpX_hasX post (w, h, a1, a2, a3, a4, a5, a6, a7, a8, a9, a10, a11) (nI p) := by
  have e : (nI p).toNatClampNeg = p := nI_clamp (by omega)
  have hi : vp_in (nI p) 8 := vp_in_nI hp (by omega)
  unfold wpX_hasX
  dsimp only
  rw [e, h2, nI_clamp (show X < 2 ^ 31 by omega), h5, h6]
  exact ⟨hi, hi, vp_in_nI hX (by omega), pk_le m x (fun z => H0 (by omega)) (fun z => H1 z)⟩
theorem pn_hasY {post : Int32 → Prop} {Y m y : Nat} (hp : p < 8) (hY : Y < 8) (h3 : a3 p = nI Y) (h5 : a5 Y = nI m) (h7 : a7 p = nI y) (hm : m ≤ 40) (hy : y ≤ 40) (H1 : y < m → post 1) (H0 : ¬ y < m → post 0) :
    wpX_hasY post (w, h, a1, a2, a3, a4, a5, a6, a7, a8, a9, a10, a11) (nI p) := by
  have e : (nI p).toNatClampNeg = p := nI_clamp (by omega)
  have hi : vp_in (nI p) 8 := vp_in_nI hp (by omega)
  unfold wpX_hasY
  dsimp only
  rw [e, h3, nI_clamp (show Y < 2 ^ 31 by omega), h5, h7]
  exact ⟨hi, hi, vp_in_nI hY (by omega), pk_le m y (fun z => H0 (by omega)) (fun z => H1 z)⟩
theorem pn_takeX {post : Int32 → St2 → Prop} {X x : Nat} {v : Int32} (hp : p < 8) (hX : X < 8) (h2 : a2 p = nI X) (h6 : a6 p = nI x) (hx : x < 40) (h9 : a9 (X * 40 + x) = v)
    (H : post v (w, h, a1, a2, a3, a4, a5, upd a6 p (nI (x + 1)), a7, a8, a9, a10, a11)) :
    wpX_takeX_2 post (w, h, a1, a2, a3, a4, a5, a6, a7, a8, a9, a10, a11) (nI p) := by
  have e : (nI p).toNatClampNeg = p := nI_clamp (by omega)
  have hi : vp_in (nI p) 8 := vp_in_nI hp (by omega)
  unfold wpX_takeX_2
  dsimp only
  rw [e, h2, h6, pn_at, nI_clamp (show X * 40 + x < 2 ^ 31 by omega), h9, nI_1]
  exact ⟨hi, hi, vp_in_nI (by omega) (by omega), nm_e ⟨hi, hi, nm_e H⟩⟩
theorem pn_takeY {post : Int32 → St2 → Prop} {Y y : Nat} {v : Int32} (hp : p < 8) (hY : Y < 8) (h3 : a3 p = nI Y) (h7 : a7 p = nI y) (hy : y < 40) (h9 : a9 (Y * 40 + y) = v)
    (H : post v (w, h, a1, a2, a3, a4, a5, a6, upd a7 p (nI (y + 1)), a8, a9, a10, a11)) :
    wpX_takeY post (w, h, a1, a2, a3, a4, a5, a6, a7, a8, a9, a10, a11) (nI p) := by
  have e : (nI p).toNatClampNeg = p := nI_clamp (by omega)
  have hi : vp_in (nI p) 8 := vp_in_nI hp (by omega)
  unfold wpX_takeY
  dsimp only
  rw [e, h3, h7, pn_at, nI_clamp (show Y * 40 + y < 2 ^ 31 by omega), h9, nI_1]
  exact ⟨hi, hi, vp_in_nI (by omega) (by omega), nm_e ⟨hi, hi, nm_e H⟩⟩
theorem pn_make {post : Int32 → St2 → Prop} {m : Nat} {v : Int32} (hp : p < 8) (h5 : a5 p = nI m) (hm : m < 40)
    (H : post 1 (w, h, a1, a2, a3, a4, upd a5 p (nI (m + 1)), a6, a7, a8, upd a9 (p * 40 + m) v, a10, a11)) :
    wpX_make post (w, h, a1, a2, a3, a4, a5, a6, a7, a8, a9, a10, a11) (nI p) v := by
  have e : (nI p).toNatClampNeg = p := nI_clamp (by omega)
  have hi : vp_in (nI p) 8 := vp_in_nI hp (by omega)
  unfold wpX_make
  dsimp only
  rw [e, h5, pn_at, nI_clamp (show p * 40 + m < 2 ^ 31 by omega), nI_1]
  exact ⟨hi, vp_in_nI (by omega) (by omega), nm_e ⟨hi, hi, nm_e H⟩⟩
/-- what a step that did something leaves -/
def pn_N (p : Nat) (md rx ry md' rx' ry' : Nat → Nat) : Prop :=
  (∀ q, q ≠ p → md' q = md q ∧ rx' q = rx q ∧ ry' q = ry q) ∧ md p ≤ md' p ∧ md p + rx p + ry p < md' p + rx' p + ry' p
def pn_T (post : Int32 → St2 → Prop) (str : Nat → Nat → Int32) (Q : Nat → Nat → Nat → Nat → Prop) (p : Nat) (md rx ry : Nat → Nat) (w h : Int32) (a1 a2 a3 a4 a8 a10 a11 : Nat → Int32) : Prop :=
  ∀ (md' rx' ry' : Nat → Nat) (a5' a6' a7' a9' : Nat → Int32), pn_D str Q md' rx' ry' a5' a6' a7' a9' → pn_N p md rx ry md' rx' ry' → post 1 (w, h, a1, a2, a3, a4, a5', a6', a7', a8, a9', a10, a11)
theorem pn_emit {post : Int32 → St2 → Prop} {a6' a7' : Nat → Int32} {x' y' : Nat} {v : Int32} (hD : pn_D str Q md rx ry a5 a6 a7 a9) (hS : pn_S kd ix iy nm str Q) (hp : p < 8) (cx : ix p < 8) (cy : iy p < 8) (hm : md p < 40)
    (hg : pn_g kd ix iy nm str md rx ry p = some (some v, x', y')) (hx : x' ≤ 40) (hy : y' ≤ 40) (hxy : rx p + ry p ≤ x' + y')
    (h6 : ∀ q, q < 8 → a6' q = nI (pn_up rx p x' q)) (h7 : ∀ q, q < 8 → a7' q = nI (pn_up ry p y' q)) (H1 : pn_T post str Q p md rx ry w h a1 a2 a3 a4 a8 a10 a11) :
    post 1 (w, h, a1, a2, a3, a4, upd a5 p (nI (md p + 1)), a6', a7', a8, upd a9 (p * 40 + md p) v, a10, a11) := by
  obtain ⟨hv, hQ⟩ := (hS p _ _ _ _ _ hp ⟨_, _, (hD _ cx).2.2.2.2.2.2.1⟩ ⟨_, _, (hD _ cy).2.2.2.2.2.2.1⟩ (hD p hp).2.2.2.2.2.2.1 _ _ _ hg).1 v rfl
  refine H1 _ _ _ _ _ _ _ (pn_D_put hD hp hm hx hy hv hQ h6 h7) ⟨fun q hq => ⟨pn_up_n hq, pn_up_n hq, pn_up_n hq⟩, ?_, ?_⟩
  · rw [pn_up_s]
    omega
  · rw [pn_up_s, pn_up_s, pn_up_s]
    omega
theorem pn_gk {k : Nat} (hk : kd p = k) : pn_g kd ix iy nm str md rx ry p = pn_go k (nm p) (str (ix p)) (str (iy p)) (md (ix p)) (md (iy p)) (md p) (rx p) (ry p) := by
  unfold pn_g
  rw [hk]
theorem pn_d6 (hD : pn_D str Q md rx ry a5 a6 a7 a9) : ∀ q, q < 8 → a6 q = nI (rx q) := fun q hq => (hD q hq).2.1
theorem pn_d7 (hD : pn_D str Q md rx ry a5 a6 a7 a9) : ∀ q, q < 8 → a7 q = nI (ry q) := fun q hq => (hD q hq).2.2.1
theorem pn_stepOdd {post : Int32 → St2 → Prop} (hC : pn_C kd ix iy nm a1 a2 a3 a4) (hD : pn_D str Q md rx ry a5 a6 a7 a9) (hS : pn_S kd ix iy nm str Q) (hp : p < 8) (hk : kd p = 4) (hm : md p < 40)
    (H0 : pn_g kd ix iy nm str md rx ry p = none → post 0 (w, h, a1, a2, a3, a4, a5, a6, a7, a8, a9, a10, a11)) (H1 : pn_T post str Q p md rx ry w h a1 a2 a3 a4 a8 a10 a11) :
    wpX_stepOdd post (w, h, a1, a2, a3, a4, a5, a6, a7, a8, a9, a10, a11) (nI p) := by
  obtain ⟨c1, c2, c3, c4, ck, cx, cy⟩ := hC p hp
  obtain ⟨d5, d6, d7, b5, b6, b7, bq, bi⟩ := hD p hp
  obtain ⟨x5, _, _, xb, _, _, _, xi⟩ := hD _ cx
  have hg := (pn_gk (ix := ix) (iy := iy) (nm := nm) (str := str) (md := md) (rx := rx) (ry := ry) hk).trans (pn_go_4 hm)
  unfold wpX_stepOdd
  dsimp only
  refine pn_hasX hp cx c2 x5 d6 xb b6 (fun hx => br_f (by decide) ?_) (fun hx => br_t rfl (H0 (by rw [hg, if_neg hx])))
  rw [if_pos hx] at hg
  refine pn_takeX hp cx c2 d6 (by omega) (xi _ hx) ?_
  refine br_c (fun ho => ?_) (fun ho => ?_)
  · rw [if_pos ho] at hg
    refine pn_make hp d5 hm ?_
    exact pn_emit hD hS hp cx cy hm hg (by omega) b7 (by omega) (pn_up_nI (pn_d6 hD)) (pn_up_id (pn_d7 hD)) H1
  · rw [if_neg ho] at hg
    have hQ := (hS p _ _ _ _ _ hp ⟨_, _, (hD _ cx).2.2.2.2.2.2.1⟩ ⟨_, _, (hD _ cy).2.2.2.2.2.2.1⟩ bq _ _ _ hg).2 rfl
    refine H1 _ _ _ _ _ _ _ (pn_D_rd hD hp (by omega) hQ (pn_up_nI (pn_d6 hD))) ⟨fun q hq => ⟨rfl, pn_up_n hq, rfl⟩, Nat.le_refl _, ?_⟩
    rw [pn_up_s]
    omega
theorem pn_stepDelay {post : Int32 → St2 → Prop} (hC : pn_C kd ix iy nm a1 a2 a3 a4) (hD : pn_D str Q md rx ry a5 a6 a7 a9) (hS : pn_S kd ix iy nm str Q) (hp : p < 8) (hk : kd p = 5) (hm : md p < 40)
    (H0 : pn_g kd ix iy nm str md rx ry p = none → post 0 (w, h, a1, a2, a3, a4, a5, a6, a7, a8, a9, a10, a11)) (H1 : pn_T post str Q p md rx ry w h a1 a2 a3 a4 a8 a10 a11) :
    wpX_stepDelay post (w, h, a1, a2, a3, a4, a5, a6, a7, a8, a9, a10, a11) (nI p) := by
  obtain ⟨c1, c2, c3, c4, ck, cx, cy⟩ := hC p hp
  obtain ⟨d5, d6, d7, b5, b6, b7, bq, bi⟩ := hD p hp
  obtain ⟨x5, _, _, xb, _, _, _, xi⟩ := hD _ cx
  have hi : vp_in (nI p) 8 := vp_in_nI hp (by omega)
  have e : (nI p).toNatClampNeg = p := nI_clamp (by omega)
  have hg := (pn_gk (ix := ix) (iy := iy) (nm := nm) (str := str) (md := md) (rx := rx) (ry := ry) hk).trans (pn_go_5 hm)
  unfold wpX_stepDelay
  dsimp only
  rw [e, c4]
  refine ⟨hi, pk_eq (md p) 0 (fun h0 => ⟨hi, ?_⟩) (fun h0 => ?_) d5⟩
  · rw [if_pos h0] at hg
    refine pn_make hp d5 hm (And.intro rfl ?_)
    exact pn_emit hD hS hp cx cy hm hg b6 b7 (by omega) (pn_up_id (pn_d6 hD)) (pn_up_id (pn_d7 hD)) H1
  · rw [if_neg h0] at hg
    refine pn_hasX hp cx c2 x5 d6 xb b6 (fun hx => br_f (by decide) ?_) (fun hx => br_t rfl (H0 (by rw [hg, if_neg hx])))
    rw [if_pos hx] at hg
    refine pn_takeX hp cx c2 d6 (by omega) (xi _ hx) ?_
    refine pn_make hp d5 hm (And.intro rfl ?_)
    exact pn_emit hD hS hp cx cy hm hg (by omega) b7 (by omega) (pn_up_nI (pn_d6 hD)) (pn_up_id (pn_d7 hD)) H1
theorem pn_stepTurn {post : Int32 → St2 → Prop} (hC : pn_C kd ix iy nm a1 a2 a3 a4) (hD : pn_D str Q md rx ry a5 a6 a7 a9) (hS : pn_S kd ix iy nm str Q) (hp : p < 8) (hk : kd p = 3) (hm : md p < 40)
    (H0 : pn_g kd ix iy nm str md rx ry p = none → post 0 (w, h, a1, a2, a3, a4, a5, a6, a7, a8, a9, a10, a11)) (H1 : pn_T post str Q p md rx ry w h a1 a2 a3 a4 a8 a10 a11) :
    wpX_stepTurn post (w, h, a1, a2, a3, a4, a5, a6, a7, a8, a9, a10, a11) (nI p) := by
  obtain ⟨c1, c2, c3, c4, ck, cx, cy⟩ := hC p hp
  obtain ⟨d5, d6, d7, b5, b6, b7, bq, bi⟩ := hD p hp
  obtain ⟨x5, _, _, xb, _, _, _, xi⟩ := hD _ cx
  obtain ⟨y5, _, _, yb, _, _, _, yi⟩ := hD _ cy
  have hi : vp_in (nI p) 8 := vp_in_nI hp (by omega)
  have e : (nI p).toNatClampNeg = p := nI_clamp (by omega)
  have hg := (pn_gk (ix := ix) (iy := iy) (nm := nm) (str := str) (md := md) (rx := rx) (ry := ry) hk).trans (pn_go_3 hm)
  unfold wpX_stepTurn
  dsimp only
  rw [e, d5]
  refine ⟨hi, pk_eq (md p % 2) 0 (fun h0 => ?_) (fun h0 => ?_) (pk_andN (n := md p) (by omega) (m := 1) 1 (by decide))⟩
  · rw [if_pos h0] at hg
    unfold wX_stepTurn_16
    refine br_f (by decide) ?_
    refine pn_hasX hp cx c2 x5 d6 xb b6 (fun hx => ?_) (fun hx => ?_)
    · rw [if_pos hx] at hg
      unfold wX_stepTurn_34
      refine br_f (by decide) (br_f (by decide) ?_)
      refine pn_takeX hp cx c2 d6 (by omega) (xi _ hx) ?_
      show wX_stepTurn_58 _ _ _ _ _ _ _ _ _ _ _ _ _ _ _ _
      unfold wX_stepTurn_58
      refine pn_make hp d5 hm (And.intro rfl ?_)
      exact pn_emit hD hS hp cx cy hm hg (by omega) b7 (by omega) (pn_up_nI (pn_d6 hD)) (pn_up_id (pn_d7 hD)) H1
    · unfold wX_stepTurn_34
      exact br_t rfl (H0 (by rw [hg, if_neg hx]))
  · rw [if_neg h0] at hg
    unfold wX_stepTurn_16
    refine br_t rfl ?_
    refine pn_hasY hp cy c3 y5 d7 yb b7 (fun hy => ?_) (fun hy => ?_)
    · rw [if_pos hy] at hg
      unfold wX_stepTurn_34
      refine br_f (by decide) (br_t rfl ?_)
      refine pn_takeY hp cy c3 d7 (by omega) (yi _ hy) ?_
      show wX_stepTurn_58 _ _ _ _ _ _ _ _ _ _ _ _ _ _ _ _
      unfold wX_stepTurn_58
      refine pn_make hp d5 hm (And.intro rfl ?_)
      exact pn_emit hD hS hp cx cy hm hg b6 (by omega) (by omega) (pn_up_id (pn_d6 hD)) (pn_up_nI (pn_d7 hD)) H1
    · unfold wX_stepTurn_34
      exact br_t rfl (H0 (by rw [hg, if_neg hy]))
theorem pn_stepPair {post : Int32 → St2 → Prop} (hC : pn_C kd ix iy nm a1 a2 a3 a4) (hD : pn_D str Q md rx ry a5 a6 a7 a9) (hS : pn_S kd ix iy nm str Q) (hp : p < 8) (hk : kd p = 2 ∨ kd p = 6) (hm : md p < 40)
    (H0 : pn_g kd ix iy nm str md rx ry p = none → post 0 (w, h, a1, a2, a3, a4, a5, a6, a7, a8, a9, a10, a11)) (H1 : pn_T post str Q p md rx ry w h a1 a2 a3 a4 a8 a10 a11) :
    wpX_stepPair post (w, h, a1, a2, a3, a4, a5, a6, a7, a8, a9, a10, a11) (nI p) := by
  obtain ⟨c1, c2, c3, c4, ck, cx, cy⟩ := hC p hp
  obtain ⟨d5, d6, d7, b5, b6, b7, bq, bi⟩ := hD p hp
  obtain ⟨x5, _, _, xb, _, _, _, xi⟩ := hD _ cx
  obtain ⟨y5, _, _, yb, _, _, _, yi⟩ := hD _ cy
  have hi : vp_in (nI p) 8 := vp_in_nI hp (by omega)
  have e : (nI p).toNatClampNeg = p := nI_clamp (by omega)
  have hn : ¬ (rx p < md (ix p) ∧ ry p < md (iy p)) → pn_g kd ix iy nm str md rx ry p = none := by
    intro z
    unfold pn_g
    rcases hk with hk | hk
    · rw [hk, pn_go_2 hm, if_neg z]
    · rw [hk, pn_go_6 hm, if_neg z]
  unfold wpX_stepPair
  dsimp only
  refine pn_hasX hp cx c2 x5 d6 xb b6 (fun hx => br_f (by decide) ?_) (fun hx => br_t rfl ?_)
  · refine pn_hasY hp cy c3 y5 d7 yb b7 (fun hy => br_f (by decide) ?_) (fun hy => br_t rfl ?_)
    · unfold wX_stepPair_21
      rw [e]
      refine br_f (by decide) ⟨hi, ?_⟩
      rcases hk with hk | hk
      · have hg := (pn_gk (ix := ix) (iy := iy) (nm := nm) (str := str) (md := md) (rx := rx) (ry := ry) hk).trans (pn_go_2 hm)
        rw [if_pos ⟨hx, hy⟩] at hg
        refine br_t (by rw [c1, hk]; rfl) ?_
        refine pn_takeX hp cx c2 d6 (by omega) (xi _ hx) ?_
        refine pn_takeY hp cy c3 d7 (by omega) (yi _ hy) ?_
        refine pn_make hp d5 hm (And.intro rfl ?_)
        exact pn_emit hD hS hp cx cy hm hg (by omega) (by omega) (by omega) (pn_up_nI (pn_d6 hD)) (pn_up_nI (pn_d7 hD)) H1
      · have hg := (pn_gk (ix := ix) (iy := iy) (nm := nm) (str := str) (md := md) (rx := rx) (ry := ry) hk).trans (pn_go_6 hm)
        rw [if_pos ⟨hx, hy⟩] at hg
        refine br_f (by rw [c1, hk]; decide) ?_
        rw [c2, c3, d6, d7, pn_at, pn_at, nI_clamp (show ix p * 40 + rx p < 2 ^ 31 by omega), nI_clamp (show iy p * 40 + ry p < 2 ^ 31 by omega), xi _ hx, yi _ hy]
        refine ⟨hi, hi, vp_in_nI (by omega) (by omega), hi, hi, vp_in_nI (by omega) (by omega), br_c (fun hlt => ?_) (fun hlt => ?_)⟩
        · rw [if_pos hlt] at hg
          unfold wX_stepPair_111
          refine br_t rfl ?_
          refine pn_takeY hp cy c3 d7 (by omega) (yi _ hy) ?_
          show wX_stepPair_129 _ _ _ _ _ _ _ _ _ _ _ _ _ _ _ _
          unfold wX_stepPair_129
          refine pn_make hp d5 hm (And.intro rfl ?_)
          exact pn_emit hD hS hp cx cy hm hg b6 (by omega) (by omega) (pn_up_id (pn_d6 hD)) (pn_up_nI (pn_d7 hD)) H1
        · rw [if_neg hlt] at hg
          unfold wX_stepPair_111
          refine br_f (by decide) ?_
          refine pn_takeX hp cx c2 d6 (by omega) (xi _ hx) ?_
          show wX_stepPair_129 _ _ _ _ _ _ _ _ _ _ _ _ _ _ _ _
          unfold wX_stepPair_129
          refine pn_make hp d5 hm (And.intro rfl ?_)
          exact pn_emit hD hS hp cx cy hm hg (by omega) b7 (by omega) (pn_up_nI (pn_d6 hD)) (pn_up_id (pn_d7 hD)) H1
    · unfold wX_stepPair_20 wX_stepPair_21
      exact br_t rfl (H0 (hn (fun z => hy z.2)))
  · unfold wX_stepPair_20 wX_stepPair_21
    exact br_t rfl (H0 (hn (fun z => hx z.1)))
theorem pn_step {post : Int32 → St2 → Prop} (hC : pn_C kd ix iy nm a1 a2 a3 a4) (hD : pn_D str Q md rx ry a5 a6 a7 a9) (hS : pn_S kd ix iy nm str Q) (hp : p < 8)
    (H0 : pn_g kd ix iy nm str md rx ry p = none → post 0 (w, h, a1, a2, a3, a4, a5, a6, a7, a8, a9, a10, a11)) (H1 : pn_T post str Q p md rx ry w h a1 a2 a3 a4 a8 a10 a11) :
    wpX_step post (w, h, a1, a2, a3, a4, a5, a6, a7, a8, a9, a10, a11) (nI p) := by
  obtain ⟨c1, c2, c3, c4, ck, cx, cy⟩ := hC p hp
  obtain ⟨d5, d6, d7, b5, b6, b7, bq, bi⟩ := hD p hp
  have hi : vp_in (nI p) 8 := vp_in_nI hp (by omega)
  have e : (nI p).toNatClampNeg = p := nI_clamp (by omega)
  unfold wpX_step
  dsimp only
  rw [e, c4]
  refine ⟨hi, nm_r d5 (pk_lt (md p) 40 (fun hm => ⟨hi, nm_r c1 ?_⟩) (fun hm => H0 (pn_go40 hm)))⟩
  have hk : kd p = 0 ∨ kd p = 1 ∨ kd p = 2 ∨ kd p = 3 ∨ kd p = 4 ∨ kd p = 5 ∨ kd p = 6 := by omega
  rcases hk with hk | hk | hk | hk | hk | hk | hk
  · rw [hk]
    refine br_f (by decide) (br_f (by decide) (br_t rfl ⟨hi, ?_⟩))
    have hg := (pn_gk (ix := ix) (iy := iy) (nm := nm) (str := str) (md := md) (rx := rx) (ry := ry) hk).trans (pn_go_0 hm)
    refine pn_make hp d5 hm (And.intro rfl ?_)
    exact pn_emit hD hS hp cx cy hm hg b6 b7 (by omega) (pn_up_id (pn_d6 hD)) (pn_up_id (pn_d7 hD)) H1
  · rw [hk]
    refine br_f (by decide) (br_f (by decide) (br_f (by decide) (br_t rfl ?_)))
    have hg := (pn_gk (ix := ix) (iy := iy) (nm := nm) (str := str) (md := md) (rx := rx) (ry := ry) hk).trans (pn_go_1 hm)
    refine pk_le 5 (md p) (fun h5 => H0 (by rw [hg, if_neg (by omega)])) (fun h5 => ⟨hi, ?_⟩)
    rw [if_pos h5] at hg
    refine pn_make hp d5 hm (br_f (by decide) ?_)
    exact pn_emit hD hS hp cx cy hm hg b6 b7 (by omega) (pn_up_id (pn_d6 hD)) (pn_up_id (pn_d7 hD)) H1
  · have hk' := hk
    rw [hk]
    refine br_f (by decide) (br_f (by decide) (br_f (by decide) (br_f (by decide) (br_t rfl ?_))))
    unfold wX_step_109
    exact pn_stepPair hC hD hS hp (Or.inl hk') hm (fun hg => And.intro rfl (H0 hg)) (fun md' rx' ry' a5' a6' a7' a9' hD' hN => And.intro rfl (H1 md' rx' ry' a5' a6' a7' a9' hD' hN))
  · have hk' := hk
    rw [hk]
    refine br_f (by decide) (br_f (by decide) (br_f (by decide) (br_f (by decide) (br_f (by decide) (br_t rfl ?_)))))
    exact pn_stepTurn hC hD hS hp hk' hm (fun hg => And.intro rfl (H0 hg)) (fun md' rx' ry' a5' a6' a7' a9' hD' hN => And.intro rfl (H1 md' rx' ry' a5' a6' a7' a9' hD' hN))
  · have hk' := hk
    rw [hk]
    refine br_f (by decide) (br_f (by decide) (br_f (by decide) (br_f (by decide) (br_f (by decide) (br_f (by decide) (br_t rfl ?_))))))
    exact pn_stepOdd hC hD hS hp hk' hm (fun hg => And.intro rfl (H0 hg)) (fun md' rx' ry' a5' a6' a7' a9' hD' hN => And.intro rfl (H1 md' rx' ry' a5' a6' a7' a9' hD' hN))
  · have hk' := hk
    rw [hk]
    refine br_f (by decide) (br_f (by decide) (br_f (by decide) (br_f (by decide) (br_f (by decide) (br_f (by decide) (br_f (by decide) (br_t rfl ?_)))))))
    exact pn_stepDelay hC hD hS hp hk' hm (fun hg => And.intro rfl (H0 hg)) (fun md' rx' ry' a5' a6' a7' a9' hD' hN => And.intro rfl (H1 md' rx' ry' a5' a6' a7' a9' hD' hN))
  · have hk' := hk
    rw [hk]
    refine br_f (by decide) (br_f (by decide) (br_f (by decide) (br_f (by decide) (br_f (by decide) (br_f (by decide) (br_f (by decide) (br_f (by decide) (br_t rfl ?_))))))))
    unfold wX_step_109
    exact pn_stepPair hC hD hS hp (Or.inr hk') hm (fun hg => And.intro rfl (H0 hg)) (fun md' rx' ry' a5' a6' a7' a9' hD' hN => And.intro rfl (H1 md' rx' ry' a5' a6' a7' a9' hD' hN))
end
section
variable {w h : Int32} {a1 a2 a3 a4 a5 a6 a7 a8 a9 a10 a11 : Nat → Int32}
variable {kd ix iy : Nat → Nat} {nm : Nat → Int32} {str : Nat → Nat → Int32} {Q : Nat → Nat → Nat → Nat → Prop}
variable {md rx ry : Nat → Nat} {p : Nat}
def pn_sm (md : Nat → Nat) : Nat := md 0 + md 1 + md 2 + md 3 + md 4 + md 5 + md 6 + md 7
theorem pn_sm_lt {md' : Nat → Nat} (hp : p < 8) (hle : ∀ q, md q ≤ md' q) (hlt : md p < md' p) : pn_sm md + 1 ≤ pn_sm md' := by
  unfold pn_sm
  have h0 := hle 0
  have h1 := hle 1
  have h2 := hle 2
  have h3 := hle 3
  have h4 := hle 4
  have h5 := hle 5
  have h6 := hle 6
  have h7 := hle 7
  have hk : p = 0 ∨ p = 1 ∨ p = 2 ∨ p = 3 ∨ p = 4 ∨ p = 5 ∨ p = 6 ∨ p = 7 := by omega
  rcases hk with z | z | z | z | z | z | z | z <;> subst z <;> omega
theorem pn_sm_le (hb : ∀ q, q < 8 → md q ≤ 40) : pn_sm md ≤ 320 := by
  unfold pn_sm
  have h0 := hb 0 (by omega)
  have h1 := hb 1 (by omega)
  have h2 := hb 2 (by omega)
  have h3 := hb 3 (by omega)
  have h4 := hb 4 (by omega)
  have h5 := hb 5 (by omega)
  have h6 := hb 6 (by omega)
  have h7 := hb 7 (by omega)
  omega
theorem pn_sm_eq {md' : Nat → Nat} (he : ∀ q, md' q = md q) : pn_sm md' = pn_sm md := by
  unfold pn_sm
  rw [he 0, he 1, he 2, he 3, he 4, he 5, he 6, he 7]
theorem pn_g_eq {md' rx' ry' : Nat → Nat} {q : Nat} (h1 : md' (ix q) = md (ix q)) (h2 : md' (iy q) = md (iy q)) (h3 : md' q = md q) (h4 : rx' q = rx q) (h5 : ry' q = ry q) :
    pn_g kd ix iy nm str md' rx' ry' q = pn_g kd ix iy nm str md rx ry q := by
  unfold pn_g
  rw [h1, h2, h3, h4, h5]
theorem pn_run68 {post : St2 → Prop} (hC : pn_C kd ix iy nm a1 a2 a3 a4) (hp : p < 8) {l0 : List Nat}
    (H : ∀ l' w' a10' a11', pn_R l' w' h a10' a11' → (∀ q, q ∈ l0 → q ∈ l') → (∀ q, q < 8 → (ix q = p ∨ iy q = p) → q ∈ l') → post (w', h, a1, a2, a3, a4, a5, a6, a7, a8, a9, a10', a11')) :
    ∀ (n i : Nat) (l : List Nat) (w : Int32) (a10 a11 : Nat → Int32), i ≤ 8 → 8 - i < n → pn_R l w h a10 a11 → (∀ q, q ∈ l0 → q ∈ l) → (∀ q, q < i → (ix q = p ∨ iy q = p) → q ∈ l) →
      wX_run_68 post (nI p) n (nI i) w h a1 a2 a3 a4 a5 a6 a7 a8 a9 a10 a11 := by
  intro n
  induction n with
  | zero => intro i l w a10 a11 hi hn; omega
  | succ n ih =>
    intro i l w a10 a11 hi hn hR hl hq
    refine pk_le 8 i (fun z => ?_) (fun z => ?_)
    · have : i = 8 := by omega
      subst this
      exact H l w a10 a11 hR hl hq
    · obtain ⟨c1, c2, c3, c4, ck, cx, cy⟩ := hC i z
      have hin : vp_in (nI i) 8 := vp_in_nI z (by omega)
      have e : (nI i).toNatClampNeg = i := nI_clamp (by omega)
      have hwake : wX_run_97 post (wX_run_68 post (nI p) n) (nI p) (nI i) w h a1 a2 a3 a4 a5 a6 a7 a8 a9 a10 a11 := by
        unfold wX_run_97
        refine pn_wake z hR (fun l' w' a10' a11' hR' hm => nm_r (nI_1 i) ?_)
        refine ih (i + 1) l' w' a10' a11' (by omega) (by omega) hR' (fun q hq' => (hm q).mpr (Or.inl (hl q hq'))) (fun q hq' hr => (hm q).mpr ?_)
        by_cases eq : q = i
        · exact Or.inr eq
        · exact Or.inl (hq q (by omega) hr)
      rw [e]
      refine ⟨hin, pk_eq (ix i) p (fun _ => hwake) (fun z1 => ⟨hin, pk_eq (iy i) p (fun _ => hwake) (fun z2 => nm_r (nI_1 i) ?_) c3⟩) c2⟩
      refine ih (i + 1) l w a10 a11 (by omega) (by omega) hR hl (fun q hq' hr => ?_)
      by_cases eq : q = i
      · subst eq
        exact absurd hr (fun t => t.elim z1 z2)
      · exact hq q (by omega) hr
theorem pn_run13 {post : St2 → Prop} {mo : Int32} {md0 rx0 ry0 : Nat → Nat} (hC : pn_C kd ix iy nm a1 a2 a3 a4) (hS : pn_S kd ix iy nm str Q) (hp : p < 8)
    (K : ∀ (x4 : Int32) (md' rx' ry' : Nat → Nat) (a5' a6' a7' a9' : Nat → Int32), pn_D str Q md' rx' ry' a5' a6' a7' a9' → (∀ q, q ≠ p → md' q = md0 q ∧ rx' q = rx0 q ∧ ry' q = ry0 q) → md0 p ≤ md' p →
      (x4 = 0 → pn_g kd ix iy nm str md' rx' ry' p = none) → (¬ x4 = 0 → mo = 120 → md0 p + 120 ≤ md' p + rx' p + ry' p) →
      wX_run_44 post (nI p) (nI (md0 p)) x4 w h a1 a2 a3 a4 a5' a6' a7' a8 a9' a10 a11) :
    ∀ (n i : Nat) (x4 : Int32) (md rx ry : Nat → Nat) (a5 a6 a7 a9 : Nat → Int32), i ≤ 120 → 120 - i < n → pn_D str Q md rx ry a5 a6 a7 a9 → (∀ q, q ≠ p → md q = md0 q ∧ rx q = rx0 q ∧ ry q = ry0 q) → md0 p ≤ md p →
      (x4 = 0 → pn_g kd ix iy nm str md rx ry p = none) → (¬ x4 = 0 → md0 p + i ≤ md p + rx p + ry p) →
      wX_run_13 post (nI p) mo (nI (md0 p)) n x4 (nI i) w h a1 a2 a3 a4 a5 a6 a7 a8 a9 a10 a11 := by
  intro n
  induction n with
  | zero => intro i x4 md rx ry a5 a6 a7 a9 hi hn; omega
  | succ n ih =>
    intro i x4 md rx ry a5 a6 a7 a9 hi hn hD ho hle h0 h1
    refine br_c (fun hmo => ?_) (fun hmo => ?_)
    · refine K x4 md rx ry a5 a6 a7 a9 hD ho hle h0 (fun hx e => ?_)
      rw [e] at hmo
      have : 120 ≤ i := (nI_leI (a := 120) (by omega) (by omega)).mp hmo
      have := h1 hx
      omega
    · refine pk_le 120 i (fun z => ?_) (fun z => ?_)
      · refine K x4 md rx ry a5 a6 a7 a9 hD ho hle h0 (fun hx e => ?_)
        have := h1 hx
        omega
      · refine br_c (fun hx => ?_) (fun hx => ?_)
        · exact K x4 md rx ry a5 a6 a7 a9 hD ho hle h0 (fun hx' => absurd hx hx')
        · refine pn_step hC hD hS hp (fun hg => nm_r (nI_1 i) ?_) (fun md' rx' ry' a5' a6' a7' a9' hD' hN => nm_r (nI_1 i) ?_)
          · exact ih (i + 1) 0 md rx ry a5 a6 a7 a9 (by omega) (by omega) hD ho hle (fun _ => hg) (fun t => absurd rfl t)
          · refine ih (i + 1) 1 md' rx' ry' a5' a6' a7' a9' (by omega) (by omega) hD' (fun q hq => ?_) (by have := hN.2.1; omega) (fun t => absurd t (by decide)) (fun _ => ?_)
            · have t1 := hN.1 q hq
              have t2 := ho q hq
              exact ⟨t1.1.trans t2.1, t1.2.1.trans t2.2.1, t1.2.2.trans t2.2.2⟩
            · have t1 := hN.2.2
              have t2 := h1 hx
              omega
theorem pn_run {post : St2 → Prop} {mo : Int32} {l : List Nat} (hC : pn_C kd ix iy nm a1 a2 a3 a4) (hS : pn_S kd ix iy nm str Q) (hD : pn_D str Q md rx ry a5 a6 a7 a9) (hR : pn_R l w h a10 a11) (hp : p < 8)
    (hst : ∀ q, q < 8 → q ≠ p → q ∉ l → pn_g kd ix iy nm str md rx ry q = none)
    (H : ∀ (l' : List Nat) (w' : Int32) (md' rx' ry' : Nat → Nat) (a5' a6' a7' a9' a10' a11' : Nat → Int32), pn_D str Q md' rx' ry' a5' a6' a7' a9' → pn_R l' w' h a10' a11' →
      (∀ q, q < 8 → q ∉ l' → pn_g kd ix iy nm str md' rx' ry' q = none) → (mo = 120 → l'.length + 8 * pn_sm md ≤ l.length + 8 * pn_sm md') →
      post (w', h, a1, a2, a3, a4, a5', a6', a7', a8, a9', a10', a11')) :
    wpX_run post (w, h, a1, a2, a3, a4, a5, a6, a7, a8, a9, a10, a11) (nI p) mo := by
  have hi : vp_in (nI p) 8 := vp_in_nI hp (by omega)
  have e : (nI p).toNatClampNeg = p := nI_clamp (by omega)
  unfold wpX_run
  dsimp only
  rw [e]
  refine ⟨hi, nm_r (hD p hp).1 ⟨121, ?_⟩⟩
  refine pn_run13 (md0 := md) (rx0 := rx) (ry0 := ry) hC hS hp ?_ 121 0 1 md rx ry a5 a6 a7 a9 (by omega) (by omega) hD (fun q _ => ⟨rfl, rfl, rfl⟩) (Nat.le_refl _) (fun t => absurd t (by decide)) (fun _ => by omega)
  intro x4 md' rx' ry' a5' a6' a7' a9' hD' ho hle h0 h1
  have h54 : ∀ (l' : List Nat) (w' : Int32) (a10' a11' : Nat → Int32), pn_R l' w' h a10' a11' → (∀ q, q ∈ l → q ∈ l') → (p ∉ l' → pn_g kd ix iy nm str md' rx' ry' p = none) → (md' p = md p → mo = 120 → l' = l) →
      wX_run_54 post (nI p) (nI (md p)) w' h a1 a2 a3 a4 a5' a6' a7' a8 a9' a10' a11' := by
    intro l' w' a10' a11' hR' hl' hp' hpo
    unfold wX_run_54
    rw [e]
    refine ⟨hi, pk_eq (md' p) (md p) (fun hm => ?_) (fun hm => ?_) (hD' p hp).1 rfl (by have := (hD' p hp).2.2.2.1; omega) (by have := (hD p hp).2.2.2.1; omega)⟩
    · have hall : ∀ q, md' q = md q := by
        intro q
        by_cases eq : q = p
        · rw [eq]
          exact hm
        · exact (ho q eq).1
      refine H l' w' md' rx' ry' a5' a6' a7' a9' a10' a11' hD' hR' (fun q hq hql => ?_) (fun em => ?_)
      · by_cases eq : q = p
        · rw [eq] at hql ⊢
          exact hp' hql
        · rw [pn_g_eq (hall _) (hall _) (hall _) (ho q eq).2.1 (ho q eq).2.2]
          exact hst q hq eq (fun t => hql (hl' q t))
      · rw [hpo hm em, pn_sm_eq hall]
        exact Nat.le_refl _
    · refine ⟨9, pn_run68 hC hp (l0 := l') (fun l'' w'' a10'' a11'' hR'' hl'' hrd => ?_) 9 0 l' w' a10' a11' (by omega) (by omega) hR' (fun q hq => hq) (fun q hq => absurd hq (by omega))⟩
      refine H l'' w'' md' rx' ry' a5' a6' a7' a9' a10'' a11'' hD' hR'' (fun q hq hql => ?_) (fun em => ?_)
      · by_cases eq : q = p
        · rw [eq] at hql ⊢
          exact hp' (fun t => hql (hl'' p t))
        · have nx : ix q ≠ p := fun t => hql (hrd q hq (Or.inl t))
          have ny : iy q ≠ p := fun t => hql (hrd q hq (Or.inr t))
          rw [pn_g_eq (ho _ nx).1 (ho _ ny).1 (ho q eq).1 (ho q eq).2.1 (ho q eq).2.2]
          exact hst q hq eq (fun t => hql (hl'' q (hl' q t)))
      · have t1 : pn_sm md + 1 ≤ pn_sm md' := by
          refine pn_sm_lt hp (fun q => ?_) (by omega)
          by_cases eq : q = p
          · rw [eq]
            exact hle
          · rw [(ho q eq).1]
            exact Nat.le_refl _
        have t2 := pn_R_len hR''
        omega
  unfold wX_run_44
  refine br_c (fun hx => ?_) (fun hx => ?_)
  · exact h54 l w a10 a11 hR (fun q hq => hq) (fun _ => h0 hx) (fun _ _ => rfl)
  · refine pn_wake hp hR (fun l' w' a10' a11' hR' hm => ?_)
    refine h54 l' w' a10' a11' hR' (fun q hq => (hm q).mpr (Or.inl hq)) (fun t => absurd ((hm p).mpr (Or.inr rfl)) t) (fun em eo => ?_)
    have t1 := h1 hx eo
    have t2 := (hD' p hp).2.2.2.2.1
    have t3 := (hD' p hp).2.2.2.2.2.1
    exact absurd t1 (by omega)
theorem pn_settle2 {post : St2 → Prop} (hC : pn_C kd ix iy nm a1 a2 a3 a4) (hS : pn_S kd ix iy nm str Q)
    (H : ∀ (w' h' : Int32) (md' rx' ry' : Nat → Nat) (a5' a6' a7' a9' a10' a11' : Nat → Int32), pn_D str Q md' rx' ry' a5' a6' a7' a9' → pn_R [] w' h' a10' a11' →
      (∀ q, q < 8 → pn_g kd ix iy nm str md' rx' ry' q = none) → post (w', h', a1, a2, a3, a4, a5', a6', a7', a8, a9', a10', a11')) :
    ∀ (n i : Nat) (l : List Nat) (w h : Int32) (md rx ry : Nat → Nat) (a5 a6 a7 a9 a10 a11 : Nat → Int32), pn_D str Q md rx ry a5 a6 a7 a9 → pn_R l w h a10 a11 →
      (∀ q, q < 8 → q ∉ l → pn_g kd ix iy nm str md rx ry q = none) → i + l.length + 2560 ≤ 2568 + 8 * pn_sm md → l.length + 2560 < n + 8 * pn_sm md →
      wX_settle_2 post n (nI i) w h a1 a2 a3 a4 a5 a6 a7 a8 a9 a10 a11 := by
  intro n
  induction n with
  | zero =>
    intro i l w h md rx ry a5 a6 a7 a9 a10 a11 hD hR hst hb hn
    have := pn_sm_le (fun q hq => (hD q hq).2.2.2.1)
    omega
  | succ n ih =>
    intro i l w h md rx ry a5 a6 a7 a9 a10 a11 hD hR hst hb hn
    have hsm := pn_sm_le (fun q hq => (hD q hq).2.2.2.1)
    refine pk_le 4000 i (fun z => absurd z (by omega)) (fun z => ?_)
    cases l with
    | nil =>
      refine br_t (by rw [hR.2.2.1]; decide) ?_
      exact H w h md rx ry a5 a6 a7 a9 a10 a11 hD hR (fun q hq => hst q hq List.not_mem_nil)
    | cons p t =>
      obtain ⟨hp, hpt, hin, h10, hw, hR'⟩ := pn_R_pop hR
      have hl8 := pn_R_len hR
      have lc : (p :: t).length = t.length + 1 := rfl
      refine br_f (by rw [hw]; exact nI_nle (by omega) (by omega)) ⟨hin, nm_r h10 (nm_e (nm_e ⟨vp_in_nI hp (by omega), ?_⟩))⟩
      rw [nI_clamp (show p < 2 ^ 31 by omega)]
      refine nm_e ?_
      refine pn_run hC hS hD hR' hp (fun q hq hqp hqt => hst q hq (fun y => (List.mem_cons.mp y).elim hqp hqt)) ?_
      intro l' w' md' rx' ry' a5' a6' a7' a9' a10' a11' hD' hR'' hst' hpot
      have hp' := hpot rfl
      have hsm' := pn_sm_le (fun q hq => (hD' q hq).2.2.2.1)
      exact nm_r (nI_1 i) (ih (i + 1) l' w' _ md' rx' ry' a5' a6' a7' a9' a10' a11' hD' hR'' hst' (by omega) (by omega))
theorem pn_settle {post : St2 → Prop} {l : List Nat} (hC : pn_C kd ix iy nm a1 a2 a3 a4) (hS : pn_S kd ix iy nm str Q) (hD : pn_D str Q md rx ry a5 a6 a7 a9) (hR : pn_R l w h a10 a11)
    (hst : ∀ q, q < 8 → q ∉ l → pn_g kd ix iy nm str md rx ry q = none)
    (H : ∀ (w' h' : Int32) (md' rx' ry' : Nat → Nat) (a5' a6' a7' a9' a10' a11' : Nat → Int32), pn_D str Q md' rx' ry' a5' a6' a7' a9' → pn_R [] w' h' a10' a11' →
      (∀ q, q < 8 → pn_g kd ix iy nm str md' rx' ry' q = none) → post (w', h', a1, a2, a3, a4, a5', a6', a7', a8, a9', a10', a11')) :
    wpX_settle post (w, h, a1, a2, a3, a4, a5, a6, a7, a8, a9, a10, a11) := by
  have hl := pn_R_len hR
  exact ⟨3000, pn_settle2 hC hS H 3000 0 l w h md rx ry a5 a6 a7 a9 a10 a11 hD hR hst (by omega) (by omega)⟩
end
section
variable {w h : Int32} {a1 a2 a3 a4 a5 a6 a7 a8 a9 a10 a11 : Nat → Int32}
variable {str : Nat → Nat → Int32} {Q : Nat → Nat → Nat → Nat → Prop} {P : (Nat → Nat) → Prop}
variable {ks xs ys : List Nat} {ns : List Int32} {p : Nat}
theorem pn_restart61 {post : St2 → Prop}
    (H : ∀ (l' : List Nat) (w' : Int32) (a10' a11' : Nat → Int32), pn_R l' w' h a10' a11' → (∀ q, q < 8 → q ∈ l') → post (w', h, a1, a2, a3, a4, a5, a6, a7, a8, a9, a10', a11')) :
    ∀ (n i : Nat) (l : List Nat) (w : Int32) (a10 a11 : Nat → Int32), i ≤ 8 → 8 - i < n → pn_R l w h a10 a11 → (∀ q, q < i → q ∈ l) →
      wX_restart_61 post n (nI i) w h a1 a2 a3 a4 a5 a6 a7 a8 a9 a10 a11 := by
  intro n
  induction n with
  | zero => intro i l w a10 a11 hi hn; omega
  | succ n ih =>
    intro i l w a10 a11 hi hn hR hl
    refine pk_le 8 i (fun z => ?_) (fun z => ?_)
    · have : i = 8 := by omega
      subst this
      exact H l w a10 a11 hR hl
    · refine pn_wake z hR (fun l' w' a10' a11' hR' hm => nm_r (nI_1 i) ?_)
      refine ih (i + 1) l' w' a10' a11' (by omega) (by omega) hR' (fun q hq => (hm q).mpr ?_)
      by_cases e : q = i
      · exact Or.inr e
      · exact Or.inl (hl q (by omega))
theorem pn_fill {f : Nat → Int32} {x : Int32} {i : Nat} (hf : ∀ q, q < i → f q = x) : ∀ q, q < i + 1 → upd f i x q = x := by
  intro q hq
  by_cases e : q = i
  · rw [e, pk_us]
  · rw [pk_un e]
    exact hf q (by omega)
theorem pn_restart12 {post : St2 → Prop}
    (H : ∀ (a5' a6' a7' a8' a11' : Nat → Int32), (∀ q, q < 8 → a5' q = 0) → (∀ q, q < 8 → a6' q = 0) → (∀ q, q < 8 → a7' q = 0) → (∀ q, q < 8 → a11' q = 0) → ∃ fu, wX_restart_61 post fu 0 w h a1 a2 a3 a4 a5' a6' a7' a8' a9 a10 a11') :
    ∀ (n i : Nat) (a5 a6 a7 a8 a11 : Nat → Int32), i ≤ 8 → 8 - i < n → (∀ q, q < i → a5 q = 0) → (∀ q, q < i → a6 q = 0) → (∀ q, q < i → a7 q = 0) → (∀ q, q < i → a11 q = 0) →
      wX_restart_12 post w h n (nI i) a1 a2 a3 a4 a5 a6 a7 a8 a9 a10 a11 := by
  intro n
  induction n with
  | zero => intro i a5 a6 a7 a8 a11 hi hn; omega
  | succ n ih =>
    intro i a5 a6 a7 a8 a11 hi hn h5 h6 h7 h11
    refine pk_le 8 i (fun z => ?_) (fun z => ?_)
    · have : i = 8 := by omega
      subst this
      exact H a5 a6 a7 a8 a11 h5 h6 h7 h11
    · have hin : vp_in (nI i) 8 := vp_in_nI z (by omega)
      have e : (nI i).toNatClampNeg = i := nI_clamp (by omega)
      rw [e]
      refine ⟨hin, nm_e ⟨hin, nm_e ⟨hin, nm_e ⟨hin, nm_e ⟨hin, nm_e (nm_r (nI_1 i) ?_)⟩⟩⟩⟩⟩
      exact ih (i + 1) _ _ _ _ _ (by omega) (by omega) (pn_fill h5) (pn_fill h6) (pn_fill h7) (pn_fill h11)
theorem pn_restart {post : St2 → Prop}
    (H : ∀ (l' : List Nat) (w' h' : Int32) (a5' a6' a7' a8' a10' a11' : Nat → Int32), (∀ q, q < 8 → a5' q = 0 ∧ a6' q = 0 ∧ a7' q = 0) → pn_R l' w' h' a10' a11' → (∀ q, q < 8 → q ∈ l') → post (w', h', a1, a2, a3, a4, a5', a6', a7', a8', a9, a10', a11')) :
    wpX_restart post (w, h, a1, a2, a3, a4, a5, a6, a7, a8, a9, a10, a11) := by
  refine ⟨9, pn_restart12 (w := 0) (h := 0) ?_ 9 0 a5 a6 a7 a8 a11 (by omega) (by omega) (fun q hq => absurd hq (by omega)) (fun q hq => absurd hq (by omega)) (fun q hq => absurd hq (by omega)) (fun q hq => absurd hq (by omega))⟩
  intro a5' a6' a7' a8' a11' h5 h6 h7 h11
  refine ⟨9, pn_restart61 (h := 0) ?_ 9 0 [] 0 a10 a11' (by omega) (by omega) (pn_R_0 h11) (fun q hq => absurd hq (by omega))⟩
  intro l' w' a10' a11'' hR hl
  exact H l' w' 0 a5' a6' a7' a8' a10' a11'' (fun q hq => ⟨h5 q hq, h6 q hq, h7 q hq⟩) hR hl
/-- the configuration of a state, by lists -/
def pn_V (ks xs ys : List Nat) (ns : List Int32) (u : St2) : Prop :=
  match u with
  | (_, _, a1, a2, a3, a4, _, _, _, _, _, _, _) => pn_C (fun p => ks.getD p 0) (fun p => xs.getD p 0) (fun p => ys.getD p 0) (fun p => ns.getD p 0) a1 a2 a3 a4
/-- a state behind restart -/
def pn_F (ks xs ys : List Nat) (ns : List Int32) (u : St2) : Prop :=
  match u with
  | (w, h, a1, a2, a3, a4, a5, a6, a7, _, _, a10, a11) => pn_C (fun p => ks.getD p 0) (fun p => xs.getD p 0) (fun p => ys.getD p 0) (fun p => ns.getD p 0) a1 a2 a3 a4 ∧
      (∀ q, q < 8 → a5 q = 0 ∧ a6 q = 0 ∧ a7 q = 0) ∧ ∃ l, pn_R l w h a10 a11 ∧ ∀ q, q < 8 → q ∈ l
/-- a settled state -/
def pn_G (ks xs ys : List Nat) (ns : List Int32) (str : Nat → Nat → Int32) (Q : Nat → Nat → Nat → Nat → Prop) (P : (Nat → Nat) → Prop) (u : St2) : Prop :=
  match u with
  | (w, h, a1, a2, a3, a4, a5, a6, a7, _, a9, a10, a11) => pn_C (fun p => ks.getD p 0) (fun p => xs.getD p 0) (fun p => ys.getD p 0) (fun p => ns.getD p 0) a1 a2 a3 a4 ∧
      ∃ md rx ry, P md ∧ pn_D str Q md rx ry a5 a6 a7 a9 ∧ pn_R [] w h a10 a11 ∧
        ∀ q, q < 8 → pn_g (fun p => ks.getD p 0) (fun p => xs.getD p 0) (fun p => ys.getD p 0) (fun p => ns.getD p 0) str md rx ry q = none
theorem pn_F_V {u : St2} (hF : pn_F ks xs ys ns u) : pn_V ks xs ys ns u := by
  obtain ⟨w, h, a1, a2, a3, a4, a5, a6, a7, a8, a9, a10, a11⟩ := u
  exact hF.1
theorem pn_G_V {u : St2} (hG : pn_G ks xs ys ns str Q P u) : pn_V ks xs ys ns u := by
  obtain ⟨w, h, a1, a2, a3, a4, a5, a6, a7, a8, a9, a10, a11⟩ := u
  exact hG.1
theorem pn_restartF {post : St2 → Prop} (hC : pn_C (fun p => ks.getD p 0) (fun p => xs.getD p 0) (fun p => ys.getD p 0) (fun p => ns.getD p 0) a1 a2 a3 a4) (H : ∀ u', pn_F ks xs ys ns u' → post u') :
    wpX_restart post (w, h, a1, a2, a3, a4, a5, a6, a7, a8, a9, a10, a11) :=
  pn_restart (fun l' _ _ _ _ _ _ _ _ h0 hR hl => H _ ⟨hC, h0, l', hR, hl⟩)
theorem pn_gs {α : Type} {l : List α} {p q : Nat} {v d : α} (hl : p < l.length) : (l.set p v).getD q d = if q = p then v else l.getD q d := by
  rw [List.getD_eq_getElem?_getD, List.getElem?_set]
  by_cases e : p = q
  · rw [if_pos e, if_pos e.symm, if_pos hl]
    rfl
  · rw [if_neg e, if_neg (fun t => e t.symm), List.getD_eq_getElem?_getD]
theorem pn_bad {post : Int32 → Prop} (hp : p < 8) (H : post 0) : wpX_bad post () (nI p) := by
  unfold wpX_bad
  exact br_f (nI_pos (by omega)) (pk_lt p 8 (fun _ => H) (fun z => absurd z (by omega)))
theorem pn_set {post : Int32 → St2 → Prop} {u : St2} {k c : Nat} {a : Int32} (hV : pn_V ks xs ys ns u) (hp : p < 8) (hk : k < 7) (hc : c < 64) (l1 : ks.length = 8) (l2 : xs.length = 8) (l3 : ys.length = 8) (l4 : ns.length = 8)
    (H : ∀ u', pn_F (ks.set p k) (xs.set p (c % 8)) (ys.set p (c / 8)) (ns.set p a) u' → post 0 u') : wpX_set post u (nI p) (nI k) (nI c) a := by
  obtain ⟨w, h, a1, a2, a3, a4, a5, a6, a7, a8, a9, a10, a11⟩ := u
  have hi : vp_in (nI p) 8 := vp_in_nI hp (by omega)
  have e : (nI p).toNatClampNeg = p := nI_clamp (by omega)
  have e1 : nI c &&& 7 = nI (c % 8) := pk_andN (by omega) 3 (by decide)
  have e2 : nI c >>> ((3 : Int32) &&& 31) = nI (c / 8) := pk_shrN (by omega) _ 3 (by decide)
  have e3 : nI (c / 8) &&& 7 = nI (c / 8) := by
    rw [pk_andN (n := c / 8) (by omega) (m := 7) 3 (by decide), Nat.mod_eq_of_lt (by omega)]
  unfold wpX_set
  dsimp only
  refine pn_bad hp (br_t rfl (br_f (nI_pos (by omega)) (pk_le k 7 (fun _ => ?_) (fun z => absurd z (by omega)))))
  rw [e, e1, e2, e3]
  refine ⟨hi, nm_e ⟨hi, nm_e ⟨hi, nm_e ⟨hi, nm_e ?_⟩⟩⟩⟩
  refine pn_restartF (ks := ks.set p k) (xs := xs.set p (c % 8)) (ys := ys.set p (c / 8)) (ns := ns.set p a) ?_ ?_
  · intro q hq
    obtain ⟨c1, c2, c3, c4, ck, cx, cy⟩ := hV q hq
    dsimp only at c1 c2 c3 c4 ck cx cy ⊢
    rw [pn_gs (by omega), pn_gs (by omega), pn_gs (by omega), pn_gs (by omega)]
    by_cases eq : q = p
    · rw [if_pos eq, if_pos eq, if_pos eq, if_pos eq, eq, pk_us, pk_us, pk_us, pk_us]
      exact ⟨rfl, rfl, rfl, rfl, hk, by omega, by omega⟩
    · rw [if_neg eq, if_neg eq, if_neg eq, if_neg eq, pk_un eq, pk_un eq, pk_un eq, pk_un eq]
      exact ⟨c1, c2, c3, c4, ck, cx, cy⟩
  · intro u' hF
    obtain ⟨w', h', b1, b2, b3, b4, b5, b6, b7, b8, b9, b10, b11⟩ := u'
    exact H _ hF
theorem pn_exchange {post : Int32 → St2 → Prop} {u : St2} {r : Nat} (hV : pn_V ks xs ys ns u) (hp : p < 8) (hr : r < 8) (l1 : ks.length = 8) (l2 : xs.length = 8) (l3 : ys.length = 8) (l4 : ns.length = 8)
    (H : ∀ u', pn_F ((ks.set p (ks.getD r 0)).set r (ks.getD p 0)) ((xs.set p (xs.getD r 0)).set r (xs.getD p 0)) ((ys.set p (ys.getD r 0)).set r (ys.getD p 0)) ((ns.set p (ns.getD r 0)).set r (ns.getD p 0)) u' → post 0 u') :
    wpX_exchange post u (nI p) (nI r) := by
  obtain ⟨w, h, a1, a2, a3, a4, a5, a6, a7, a8, a9, a10, a11⟩ := u
  have hi : vp_in (nI p) 8 := vp_in_nI hp (by omega)
  have hj : vp_in (nI r) 8 := vp_in_nI hr (by omega)
  have e : (nI p).toNatClampNeg = p := nI_clamp (by omega)
  have e' : (nI r).toNatClampNeg = r := nI_clamp (by omega)
  unfold wpX_exchange
  dsimp only
  refine pn_bad hp (br_t rfl (pn_bad hr (br_t rfl ?_)))
  rw [e, e']
  refine ⟨hi, nm_e ⟨hj, hi, nm_e ⟨hj, nm_e ⟨hi, nm_e ⟨hj, hi, nm_e ⟨hj, nm_e ⟨hi, nm_e ⟨hj, hi, nm_e ⟨hj, nm_e ⟨hi, nm_e ⟨hj, hi, nm_e ⟨hj, nm_e ?_⟩⟩⟩⟩⟩⟩⟩⟩⟩⟩⟩⟩
  refine pn_restartF (ks := (ks.set p (ks.getD r 0)).set r (ks.getD p 0)) (xs := (xs.set p (xs.getD r 0)).set r (xs.getD p 0)) (ys := (ys.set p (ys.getD r 0)).set r (ys.getD p 0)) (ns := (ns.set p (ns.getD r 0)).set r (ns.getD p 0)) ?_ ?_
  · intro q hq
    obtain ⟨c1, c2, c3, c4, ck, cx, cy⟩ := hV q hq
    obtain ⟨p1, p2, p3, p4, pk, px, py⟩ := hV p hp
    obtain ⟨r1, r2, r3, r4, rk, rx, ry⟩ := hV r hr
    dsimp only at c1 c2 c3 c4 ck cx cy p1 p2 p3 p4 pk px py r1 r2 r3 r4 rk rx ry ⊢
    have s1 : (ks.set p (ks.getD r 0)).length = 8 := by rw [List.length_set]; exact l1
    have s2 : (xs.set p (xs.getD r 0)).length = 8 := by rw [List.length_set]; exact l2
    have s3 : (ys.set p (ys.getD r 0)).length = 8 := by rw [List.length_set]; exact l3
    have s4 : (ns.set p (ns.getD r 0)).length = 8 := by rw [List.length_set]; exact l4
    rw [pn_gs (l := ks.set p (ks.getD r 0)) (by omega), pn_gs (l := xs.set p (xs.getD r 0)) (by omega), pn_gs (l := ys.set p (ys.getD r 0)) (by omega), pn_gs (l := ns.set p (ns.getD r 0)) (by omega)]
    by_cases er : q = r
    · rw [if_pos er, if_pos er, if_pos er, if_pos er, er, pk_us, pk_us, pk_us, pk_us]
      exact ⟨p1, p2, p3, p4, pk, px, py⟩
    · rw [if_neg er, if_neg er, if_neg er, if_neg er, pk_un er, pk_un er, pk_un er, pk_un er]
      rw [pn_gs (by omega), pn_gs (by omega), pn_gs (by omega), pn_gs (by omega)]
      by_cases eq : q = p
      · rw [if_pos eq, if_pos eq, if_pos eq, if_pos eq, eq, pk_us, pk_us, pk_us, pk_us]
        exact ⟨r1, r2, r3, r4, rk, rx, ry⟩
      · rw [if_neg eq, if_neg eq, if_neg eq, if_neg eq, pk_un eq, pk_un eq, pk_un eq, pk_un eq]
        exact ⟨c1, c2, c3, c4, ck, cx, cy⟩
  · intro u' hF
    obtain ⟨w', h', b1, b2, b3, b4, b5, b6, b7, b8, b9, b10, b11⟩ := u'
    exact H _ hF
theorem pn_init {post : St2 → Prop} {mc ms : Nat} (hc : 11 ≤ mc) (hs : 400 ≤ ms)
    (H : ∀ u', pn_F [1, 1, 1, 1, 1, 1, 1, 1] [0, 0, 0, 0, 0, 0, 0, 0] [0, 0, 0, 0, 0, 0, 0, 0] [0, 0, 0, 0, 0, 0, 0, 0] u' → post u') : wpX_init post mc ms (0, 0) := by
  unfold wpX_init
  dsimp only
  refine ⟨by omega, by omega, by omega, by omega, by omega, by omega, by omega, by omega, by omega, by omega, by omega, by omega, by omega, by omega, by omega, by omega, by omega, by omega, by omega, by omega, by omega, by omega, ?_⟩
  refine pk_loop (fun n i s => wX_init_95 post mc ms 11 400 0 0 n (nI i) s (fun _ => 0) (fun _ => 0) (fun _ => 0) (fun _ => 0) (fun _ => 0) (fun _ => 0) (fun _ => 0) (fun _ => 0) (fun _ => 0) (fun _ => 0)) (fun i s => ∀ q, q < i → s q = 1) 8 0 (fun _ => 0) (by omega) (fun q hq => absurd hq (by omega)) ?_ ?_
  · intro n s hq
    refine pk_le 8 8 (fun _ => ?_) (fun z => absurd z (by omega))
    refine pn_restartF (ks := [1, 1, 1, 1, 1, 1, 1, 1]) (xs := [0, 0, 0, 0, 0, 0, 0, 0]) (ys := [0, 0, 0, 0, 0, 0, 0, 0]) (ns := [0, 0, 0, 0, 0, 0, 0, 0]) ?_ ?_
    · intro q h8
      have e1 := hq q h8
      have hk : q = 0 ∨ q = 1 ∨ q = 2 ∨ q = 3 ∨ q = 4 ∨ q = 5 ∨ q = 6 ∨ q = 7 := by omega
      rw [e1]
      rcases hk with z | z | z | z | z | z | z | z <;> subst z <;> exact ⟨rfl, rfl, rfl, rfl, by decide, by decide, by decide⟩
    · intro u' hF
      obtain ⟨w', h', b1, b2, b3, b4, b5, b6, b7, b8, b9, b10, b11⟩ := u'
      exact H _ hF
  · intro n i s hi hq hw
    refine pk_le 8 i (fun z => absurd z (by omega)) (fun z => ?_)
    have hin : vp_in (nI i) 8 := vp_in_nI z (by omega)
    have e : (nI i).toNatClampNeg = i := nI_clamp (by omega)
    rw [e]
    exact ⟨hin, nm_e (nm_r (nI_1 i) (hw _ (pn_fill hq)))⟩
theorem pn_fire {post : Int32 → St2 → Prop} {u : St2} {mo : Int32} (hG : pn_G ks xs ys ns str Q P u) (hS : pn_S (fun p => ks.getD p 0) (fun p => xs.getD p 0) (fun p => ys.getD p 0) (fun p => ns.getD p 0) str Q) (hp : p < 8)
    (H : ∀ u', pn_V ks xs ys ns u' → post 0 u') : wpX_fire post u (nI p) mo := by
  obtain ⟨w, h, a1, a2, a3, a4, a5, a6, a7, a8, a9, a10, a11⟩ := u
  obtain ⟨hC, md, rx, ry, hP, hD, hR, hst⟩ := hG
  unfold wpX_fire
  dsimp only
  refine pn_bad hp (br_t rfl ?_)
  refine pn_run hC hS hD hR hp (fun q hq _ _ => hst q hq) ?_
  intro l' w' md' rx' ry' a5' a6' a7' a9' a10' a11' hD' hR' hst' hpo
  exact H _ hC
end
section
variable {w h : Int32} {a1 a2 a3 a4 a5 a6 a7 a8 a9 a10 a11 : Nat → Int32}
variable {str : Nat → Nat → Int32} {Q : Nat → Nat → Nat → Nat → Prop} {P : (Nat → Nat) → Prop}
variable {ks xs ys : List Nat} {ns : List Int32} {p : Nat} {u : St2}
/-- settle leads to a state of Gp -/
def pn_W (Gp : St2 → Prop) (u : St2) : Prop := ∀ post : St2 → Prop, (∀ u', Gp u' → post u') → wpX_settle post u
theorem pn_W_G (hG : pn_G ks xs ys ns str Q P u) : pn_W (pn_G ks xs ys ns str Q P) u := by
  intro post H
  obtain ⟨w, h, a1, a2, a3, a4, a5, a6, a7, a8, a9, a10, a11⟩ := u
  have hG' := hG
  obtain ⟨hC, md, rx, ry, hP, hD, hR, hst⟩ := hG'
  exact ⟨1, br_f (by decide) (br_t (by rw [hR.2.2.1]; decide) (H _ hG))⟩
theorem pn_W_F (hF : pn_F ks xs ys ns u) (hS : pn_S (fun p => ks.getD p 0) (fun p => xs.getD p 0) (fun p => ys.getD p 0) (fun p => ns.getD p 0) str Q) (hQ : ∀ q, q < 8 → Q q 0 0 0)
    (hP : ∀ md rx ry : Nat → Nat, (∀ q, q < 8 → md q ≤ 40 ∧ rx q ≤ 40 ∧ ry q ≤ 40 ∧ Q q (md q) (rx q) (ry q)) →
      (∀ q, q < 8 → pn_g (fun p => ks.getD p 0) (fun p => xs.getD p 0) (fun p => ys.getD p 0) (fun p => ns.getD p 0) str md rx ry q = none) → P md) :
    pn_W (pn_G ks xs ys ns str Q P) u := by
  intro post H
  obtain ⟨w, h, a1, a2, a3, a4, a5, a6, a7, a8, a9, a10, a11⟩ := u
  obtain ⟨hC, h0, l, hR, hl⟩ := hF
  refine pn_settle (md := fun _ => 0) (rx := fun _ => 0) (ry := fun _ => 0) hC hS (fun q hq => ?_) hR (fun q hq hn => absurd (hl q hq) hn) ?_
  · obtain ⟨z5, z6, z7⟩ := h0 q hq
    exact ⟨z5, z6, z7, Nat.zero_le 40, Nat.zero_le 40, Nat.zero_le 40, hQ q hq, fun j hj => absurd hj (Nat.not_lt_zero j)⟩
  · intro w' h' md' rx' ry' a5' a6' a7' a9' a10' a11' hD hR' hst
    refine H _ ⟨hC, md', rx', ry', hP md' rx' ry' (fun q hq => ?_) hst, hD, hR', hst⟩
    obtain ⟨_, _, _, b5, b6, b7, bq, _⟩ := hD q hq
    exact ⟨b5, b6, b7, bq⟩
theorem pn_length {post : Int32 → St2 → Prop} {v : Nat} (hW : pn_W (pn_G ks xs ys ns str Q P) u) (hp : p < 8) (hv : ∀ md : Nat → Nat, P md → md p = v)
    (H : ∀ u', pn_G ks xs ys ns str Q P u' → post (nI v) u') : wpX_length post u (nI p) := by
  obtain ⟨w, h, a1, a2, a3, a4, a5, a6, a7, a8, a9, a10, a11⟩ := u
  have hi : vp_in (nI p) 8 := vp_in_nI hp (by omega)
  have e : (nI p).toNatClampNeg = p := nI_clamp (by omega)
  unfold wpX_length
  dsimp only
  refine pn_bad hp (br_t rfl (hW _ ?_))
  intro u' hG
  obtain ⟨w', h', b1, b2, b3, b4, b5, b6, b7, b8, b9, b10, b11⟩ := u'
  have hG' := hG
  obtain ⟨hC, md, rx, ry, hP, hD, hR, hst⟩ := hG'
  dsimp only
  rw [e, (hD p hp).1, hv md hP]
  exact ⟨hi, H _ hG⟩
theorem pn_item {post : Int32 → St2 → Prop} {i v : Nat} (hW : pn_W (pn_G ks xs ys ns str Q P) u) (hp : p < 8) (hi4 : i < 1000) (hv : ∀ md : Nat → Nat, P md → md p = v)
    (H1 : i < v → ∀ u', pn_G ks xs ys ns str Q P u' → post (str p i) u') (H0 : v ≤ i → ∀ u', pn_G ks xs ys ns str Q P u' → post (-3) u') : wpX_item post u (nI p) (nI i) := by
  obtain ⟨w, h, a1, a2, a3, a4, a5, a6, a7, a8, a9, a10, a11⟩ := u
  have hi : vp_in (nI p) 8 := vp_in_nI hp (by omega)
  have e : (nI p).toNatClampNeg = p := nI_clamp (by omega)
  unfold wpX_item
  dsimp only
  refine pn_bad hp (br_t rfl (hW _ ?_))
  intro u' hG
  obtain ⟨w', h', b1, b2, b3, b4, b5, b6, b7, b8, b9, b10, b11⟩ := u'
  have hG' := hG
  obtain ⟨hC, md, rx, ry, hP, hD, hR, hst⟩ := hG'
  obtain ⟨d5, _, _, hb, _, _, _, hit⟩ := hD p hp
  have hv' := hv md hP
  rw [hv'] at d5 hb hit
  dsimp only
  rw [e, d5]
  refine br_f (nI_pos (by omega)) ⟨hi, pk_lt i v (fun z => ?_) (fun z => H0 z _ hG)⟩
  rw [pn_at, nI_clamp (show p * 40 + i < 2 ^ 31 by omega), hit i z]
  exact ⟨vp_in_nI (by omega) (by omega), H1 z _ hG⟩
def pn_tot (f : Nat → Int32) : Nat → Int32
  | 0 => 0
  | n + 1 => pn_tot f n + f n
theorem pn_sum {post : Int32 → St2 → Prop} {v : Nat} (hW : pn_W (pn_G ks xs ys ns str Q P) u) (hp : p < 8) (hv : ∀ md : Nat → Nat, P md → md p = v)
    (H : ∀ u', pn_G ks xs ys ns str Q P u' → post (pn_tot (str p) v) u') : wpX_sum post u (nI p) := by
  obtain ⟨w, h, a1, a2, a3, a4, a5, a6, a7, a8, a9, a10, a11⟩ := u
  have hi : vp_in (nI p) 8 := vp_in_nI hp (by omega)
  have e : (nI p).toNatClampNeg = p := nI_clamp (by omega)
  unfold wpX_sum
  dsimp only
  refine pn_bad hp (br_t rfl (hW _ ?_))
  intro u' hG
  obtain ⟨w', h', b1, b2, b3, b4, b5, b6, b7, b8, b9, b10, b11⟩ := u'
  have hG' := hG
  obtain ⟨hC, md, rx, ry, hP, hD, hR, hst⟩ := hG'
  obtain ⟨d5, _, _, hb, _, _, _, hit⟩ := hD p hp
  have hv' := hv md hP
  rw [hv'] at d5 hb hit
  refine pk_loop (fun n i s => wX_sum_17 post (nI p) w' h' b1 b2 b3 b4 b5 b6 b7 b8 b9 b10 b11 n s (nI i)) (fun i s => s = pn_tot (str p) i) v 0 0 (by omega) rfl ?_ ?_
  · intro n s hs
    rw [hs]
    show wX_sum_17 post (nI p) w' h' b1 b2 b3 b4 b5 b6 b7 b8 b9 b10 b11 (n + 1) (pn_tot (str p) v) (nI v)
    unfold wX_sum_17
    rw [e, d5]
    exact ⟨hi, pk_le v v (fun _ => H _ hG) (fun z => absurd z (by omega))⟩
  · intro n i s hiv hs hw
    show wX_sum_17 post (nI p) w' h' b1 b2 b3 b4 b5 b6 b7 b8 b9 b10 b11 (n + 1) s (nI i)
    unfold wX_sum_17
    rw [e, d5]
    refine ⟨hi, pk_le v i (fun z => absurd z (by omega)) (fun z => ?_)⟩
    rw [pn_at, nI_clamp (show p * 40 + i < 2 ^ 31 by omega), hit i z]
    refine ⟨vp_in_nI (by omega) (by omega), nm_e (nm_r (nI_1 i) (hw _ ?_))⟩
    rw [hs]
    rfl
theorem pn_find {post : Int32 → St2 → Prop} {x : Int32} {v : Nat} (hW : pn_W (pn_G ks xs ys ns str Q P) u) (hp : p < 8) (hv : ∀ md : Nat → Nat, P md → md p = v)
    (H1 : ∀ i, i < v → str p i = x → (∀ j, j < i → ¬ str p j = x) → ∀ u', pn_G ks xs ys ns str Q P u' → post (nI i) u')
    (H0 : (∀ j, j < v → ¬ str p j = x) → ∀ u', pn_G ks xs ys ns str Q P u' → post (-3) u') : wpX_find post u (nI p) x := by
  obtain ⟨w, h, a1, a2, a3, a4, a5, a6, a7, a8, a9, a10, a11⟩ := u
  have hi : vp_in (nI p) 8 := vp_in_nI hp (by omega)
  have e : (nI p).toNatClampNeg = p := nI_clamp (by omega)
  unfold wpX_find
  dsimp only
  refine pn_bad hp (br_t rfl (hW _ ?_))
  intro u' hG
  obtain ⟨w', h', b1, b2, b3, b4, b5, b6, b7, b8, b9, b10, b11⟩ := u'
  have hG' := hG
  obtain ⟨hC, md, rx, ry, hP, hD, hR, hst⟩ := hG'
  obtain ⟨d5, _, _, hb, _, _, _, hit⟩ := hD p hp
  have hv' := hv md hP
  rw [hv'] at d5 hb hit
  have main : ∀ n i : Nat, i ≤ v → v - i < n → (∀ j, j < i → ¬ str p j = x) → wX_find_15 post (nI p) x w' h' b1 b2 b3 b4 b5 b6 b7 b8 b9 b10 b11 n (nI i) := by
    intro n
    induction n with
    | zero => intro i h1 h2; omega
    | succ n ih =>
      intro i h1 h2 h3
      unfold wX_find_15
      rw [e, d5]
      refine ⟨hi, pk_le v i (fun z => ?_) (fun z => ?_)⟩
      · have : i = v := by omega
        subst this
        exact H0 h3 _ hG
      · rw [pn_at, nI_clamp (show p * 40 + i < 2 ^ 31 by omega), hit i z]
        refine ⟨vp_in_nI (by omega) (by omega), br_c (fun hx => H1 i z hx h3 _ hG) (fun hx => nm_r (nI_1 i) (ih (i + 1) (by omega) (by omega) (fun j hj => ?_)))⟩
        by_cases ej : j = i
        · rw [ej]
          exact hx
        · exact h3 j (by omega)
  exact ⟨v + 1, main (v + 1) 0 (by omega) (by omega) (fun j hj => absurd hj (by omega))⟩
theorem pn_same_no {post : Int32 → St2 → Prop} {r v v' : Nat} (hW : pn_W (pn_G ks xs ys ns str Q P) u) (hp : p < 8) (hr : r < 8) (hv : ∀ md : Nat → Nat, P md → md p = v) (hv' : ∀ md : Nat → Nat, P md → md r = v') (hne : v ≠ v')
    (H : ∀ u', pn_G ks xs ys ns str Q P u' → post 0 u') : wpX_same post u (nI p) (nI r) := by
  obtain ⟨w, h, a1, a2, a3, a4, a5, a6, a7, a8, a9, a10, a11⟩ := u
  have hi : vp_in (nI p) 8 := vp_in_nI hp (by omega)
  have hj : vp_in (nI r) 8 := vp_in_nI hr (by omega)
  have e : (nI p).toNatClampNeg = p := nI_clamp (by omega)
  have e' : (nI r).toNatClampNeg = r := nI_clamp (by omega)
  unfold wpX_same
  dsimp only
  refine pn_bad hp (br_t rfl (pn_bad hr (br_t rfl (hW _ ?_))))
  intro u' hG
  obtain ⟨w', h', b1, b2, b3, b4, b5, b6, b7, b8, b9, b10, b11⟩ := u'
  have hG' := hG
  obtain ⟨hC, md, rx, ry, hP, hD, hR, hst⟩ := hG'
  have d1 := (hD p hp).1
  have d2 := (hD r hr).1
  have t1 := (hD p hp).2.2.2.1
  have t2 := (hD r hr).2.2.2.1
  rw [hv md hP] at d1 t1
  rw [hv' md hP] at d2 t2
  dsimp only
  rw [e, e', d1, d2]
  exact ⟨hi, hj, pk_eq v v' (fun z => absurd z hne) (fun _ => H _ hG)⟩
theorem pn_same_0 {post : Int32 → St2 → Prop} {r : Nat} (hW : pn_W (pn_G ks xs ys ns str Q P) u) (hp : p < 8) (hr : r < 8) (hv : ∀ md : Nat → Nat, P md → md p = 0) (hv' : ∀ md : Nat → Nat, P md → md r = 0)
    (H : ∀ u', pn_G ks xs ys ns str Q P u' → post 1 u') : wpX_same post u (nI p) (nI r) := by
  obtain ⟨w, h, a1, a2, a3, a4, a5, a6, a7, a8, a9, a10, a11⟩ := u
  have hi : vp_in (nI p) 8 := vp_in_nI hp (by omega)
  have hj : vp_in (nI r) 8 := vp_in_nI hr (by omega)
  have e : (nI p).toNatClampNeg = p := nI_clamp (by omega)
  have e' : (nI r).toNatClampNeg = r := nI_clamp (by omega)
  unfold wpX_same
  dsimp only
  refine pn_bad hp (br_t rfl (pn_bad hr (br_t rfl (hW _ ?_))))
  intro u' hG
  obtain ⟨w', h', b1, b2, b3, b4, b5, b6, b7, b8, b9, b10, b11⟩ := u'
  have hG' := hG
  obtain ⟨hC, md, rx, ry, hP, hD, hR, hst⟩ := hG'
  have d1 := (hD p hp).1
  have d2 := (hD r hr).1
  rw [hv md hP] at d1
  rw [hv' md hP] at d2
  dsimp only
  rw [e, e', d1, d2]
  refine ⟨hi, hj, br_t rfl ⟨1, ?_⟩⟩
  unfold wX_same_39
  rw [e, d1]
  exact ⟨hi, br_t (by decide) (H _ hG)⟩
def pn_cnt (md : Nat → Nat) : Nat → Nat
  | 0 => 0
  | i + 1 => pn_cnt md i + (if md i = 40 then 1 else 0)
theorem pn_full {post : Int32 → St2 → Prop} {v : Nat} (hW : pn_W (pn_G ks xs ys ns str Q P) u) (hv : ∀ md : Nat → Nat, P md → pn_cnt md 8 = v)
    (H : ∀ u', pn_G ks xs ys ns str Q P u' → post (nI v) u') : wpX_full post u := by
  obtain ⟨w, h, a1, a2, a3, a4, a5, a6, a7, a8, a9, a10, a11⟩ := u
  unfold wpX_full
  dsimp only
  refine hW _ ?_
  intro u' hG
  obtain ⟨w', h', b1, b2, b3, b4, b5, b6, b7, b8, b9, b10, b11⟩ := u'
  have hG' := hG
  obtain ⟨hC, md, rx, ry, hP, hD, hR, hst⟩ := hG'
  refine pk_loop (fun n i s => wX_full_8 post w' h' b1 b2 b3 b4 b5 b6 b7 b8 b9 b10 b11 n s (nI i)) (fun i s => s = nI (pn_cnt md i)) 8 0 0 (by omega) rfl ?_ ?_
  · intro n s hs
    rw [hs, hv md hP]
    exact pk_le 8 8 (fun _ => H _ hG) (fun z => absurd z (by omega))
  · intro n i s hi8 hs hw
    have hi : vp_in (nI i) 8 := vp_in_nI hi8 (by omega)
    have e : (nI i).toNatClampNeg = i := nI_clamp (by omega)
    have d1 := (hD i hi8).1
    have t1 := (hD i hi8).2.2.2.1
    show wX_full_8 post w' h' b1 b2 b3 b4 b5 b6 b7 b8 b9 b10 b11 (n + 1) s (nI i)
    unfold wX_full_8
    rw [e, d1]
    refine pk_le 8 i (fun z => absurd z (by omega)) (fun z => ⟨hi, pk_eq (md i) 40 (fun hm => ?_) (fun hm => ?_)⟩)
    · refine nm_e (nm_r (nI_1 i) (hw _ ?_))
      rw [hs, nI_1]
      show _ = nI (pn_cnt md i + (if md i = 40 then 1 else 0))
      rw [if_pos hm]
    · refine nm_r (nI_1 i) (hw _ ?_)
      rw [hs]
      show _ = nI (pn_cnt md i + (if md i = 40 then 1 else 0))
      rw [if_neg hm, Nat.add_zero]
end
section
/-- the streams of the kinds -/
def pn_cs (a : Int32) (j : Nat) : Int32 := a + nI j
def pn_ls (b : Int32) (j : Nat) : Int32 := b * (2 * nI j + 1)
def pn_ts (s t : Nat → Int32) (j : Nat) : Int32 := if j % 2 = 0 then s (j / 2) else t (j / 2)
def pn_path (s t : Nat → Int32) : Nat → Nat × Nat
  | 0 => (0, 0)
  | m + 1 => if t (pn_path s t m).2 < s (pn_path s t m).1 then ((pn_path s t m).1, (pn_path s t m).2 + 1) else ((pn_path s t m).1 + 1, (pn_path s t m).2)
def pn_ms (s t : Nat → Int32) (m : Nat) : Int32 := if t (pn_path s t m).2 < s (pn_path s t m).1 then t (pn_path s t m).2 else s (pn_path s t m).1
def pn_os (A : Int) (j : Nat) : Int32 := pn_z (A + (1 - A % 2) + 2 * (j : Int))
def pn_s6 (b : Int32) (s : Nat → Int32) : Nat → Int32
  | 0 => b
  | j + 1 => pn_s6 b s j + s j
def pn_s7 (b : Int32) (s : Nat → Int32) (j : Nat) : Int32 := pn_s6 b s j + s j
/-- how far a process of a kind has read when it has made m -/
def pn_qc (m _x _y : Nat) : Prop := m ≤ 40
def pn_ql (m _x _y : Nat) : Prop := m ≤ 5
def pn_qt (n m x y : Nat) : Prop := m ≤ n ∧ x = (m + 1) / 2 ∧ y = m / 2
def pn_qa (n m x y : Nat) : Prop := m ≤ n ∧ x = m ∧ y = m
def pn_qd (m x _y : Nat) : Prop := m ≤ 40 ∧ x = m - 1
def pn_qo (A : Int) (m x _y : Nat) : Prop := m = (x + (A % 2).toNat) / 2
def pn_qm (s t : Nat → Int32) (LX LY m x y : Nat) : Prop := m ≤ 40 ∧ x = (pn_path s t m).1 ∧ y = (pn_path s t m).2 ∧ ∀ k, k < m → (pn_path s t k).1 < LX ∧ (pn_path s t k).2 < LY
theorem pn_path_sum (s t : Nat → Int32) (m : Nat) : (pn_path s t m).1 + (pn_path s t m).2 = m := by
  induction m with
  | zero => rfl
  | succ m ih =>
    unfold pn_path
    by_cases hc : t (pn_path s t m).2 < s (pn_path s t m).1
    · rw [if_pos hc]
      dsimp only
      omega
    · rw [if_neg hc]
      dsimp only
      omega
/-- a process of kind k keeps to its stream s and its q -/
def pn_K (k : Nat) (num : Int32) (sx sy s : Nat → Int32) (qx qy q : Nat → Nat → Nat → Prop) : Prop :=
  ∀ lx ly m x y, (∃ i j, qx lx i j) → (∃ i j, qy ly i j) → q m x y → ∀ e x' y', pn_go k num sx sy lx ly m x y = some (e, x', y') →
    (∀ v, e = some v → s m = v ∧ q (m + 1) x' y') ∧ (e = none → q m x' y')
theorem pn_ex {v : Int32} {x y : Nat} {e : Option Int32} {x' y' m : Nat} {s : Nat → Int32} {q : Nat → Nat → Nat → Prop} (hg : some (some v, x, y) = some (e, x', y')) (hs : s m = v) (hq : q (m + 1) x y) :
    (∀ v, e = some v → s m = v ∧ q (m + 1) x' y') ∧ (e = none → q m x' y') := by
  cases hg
  refine ⟨fun v' hv => ?_, fun hn => nomatch hn⟩
  cases hv
  exact ⟨hs, hq⟩
theorem pn_exn {A : Prop} {e : Option Int32} {x' y' : Nat} (hg : none = some (e, x', y')) : A := nomatch hg
section
variable {num : Int32} {sx sy s : Nat → Int32} {qx qy : Nat → Nat → Nat → Prop}
theorem pn_K0 {a : Int32} : pn_K 0 a sx sy (pn_cs a) qx qy pn_qc := by
  intro lx ly m x y hx hy hq e x' y' hg
  by_cases hm : m < 40
  · rw [pn_go_0 hm] at hg
    exact pn_ex hg rfl (show m + 1 ≤ 40 by omega)
  · rw [pn_go40 (by omega)] at hg
    exact pn_exn hg
theorem pn_K1 {b : Int32} : pn_K 1 b sx sy (pn_ls b) qx qy pn_ql := by
  intro lx ly m x y hx hy hq e x' y' hg
  by_cases hm : m < 40
  · rw [pn_go_1 hm] at hg
    by_cases h5 : m < 5
    · rw [if_pos h5] at hg
      exact pn_ex hg rfl (show m + 1 ≤ 5 by omega)
    · rw [if_neg h5] at hg
      exact pn_exn hg
  · rw [pn_go40 (by omega)] at hg
    exact pn_exn hg
theorem pn_K2 {n : Nat} (hs : ∀ m, s m = sx m + sy m) (hb : ∀ lx ly m, (∃ i j, qx lx i j) → (∃ i j, qy ly i j) → m ≤ n → m < 40 → m < lx → m < ly → m < n) : pn_K 2 num sx sy s qx qy (pn_qa n) := by
  intro lx ly m x y hx hy hq e x' y' hg
  obtain ⟨q1, q2, q3⟩ := hq
  rw [q2, q3] at hg
  by_cases hm : m < 40
  · rw [pn_go_2 hm] at hg
    by_cases hc : m < lx ∧ m < ly
    · rw [if_pos hc] at hg
      have := hb lx ly m hx hy q1 hm hc.1 hc.2
      exact pn_ex hg (hs m) ⟨by omega, rfl, rfl⟩
    · rw [if_neg hc] at hg
      exact pn_exn hg
  · rw [pn_go40 (by omega)] at hg
    exact pn_exn hg
theorem pn_K3 {n : Nat} (hb : ∀ lx ly m, (∃ i j, qx lx i j) → (∃ i j, qy ly i j) → m ≤ n → m < 40 → ((m % 2 = 0 → m / 2 < lx → m < n) ∧ (m % 2 = 1 → m / 2 < ly → m < n))) : pn_K 3 num sx sy (pn_ts sx sy) qx qy (pn_qt n) := by
  intro lx ly m x y hx hy hq e x' y' hg
  obtain ⟨q1, q2, q3⟩ := hq
  by_cases hm : m < 40
  · rw [pn_go_3 hm] at hg
    have hbb := hb lx ly m hx hy q1 hm
    by_cases h2 : m % 2 = 0
    · rw [if_pos h2] at hg
      have ex : x = m / 2 := by omega
      by_cases hc : x < lx
      · rw [if_pos hc] at hg
        have := hbb.1 h2 (by omega)
        refine pn_ex hg ?_ ⟨by omega, by omega, by omega⟩
        unfold pn_ts
        rw [if_pos h2, ex]
      · rw [if_neg hc] at hg
        exact pn_exn hg
    · rw [if_neg h2] at hg
      by_cases hc : y < ly
      · rw [if_pos hc] at hg
        have := hbb.2 (by omega) (by omega)
        refine pn_ex hg ?_ ⟨by omega, by omega, by omega⟩
        unfold pn_ts
        rw [if_neg h2, q3]
      · rw [if_neg hc] at hg
        exact pn_exn hg
  · rw [pn_go40 (by omega)] at hg
    exact pn_exn hg
theorem pn_cs_z (A : Int) (x : Nat) : pn_cs (pn_z A) x = pn_z (A + x) := by
  unfold pn_cs
  rw [pn_z_n, pn_z_add]
theorem pn_K4 {A : Int} : pn_K 4 num (pn_cs (pn_z A)) sy (pn_os A) qx qy (pn_qo A) := by
  intro lx ly m x y hx hy hq e x' y' hg
  have hq' : m = (x + (A % 2).toNat) / 2 := hq
  by_cases hm : m < 40
  · rw [pn_go_4 hm] at hg
    by_cases hc : x < lx
    · rw [if_pos hc, pn_cs_z] at hg
      by_cases ho : (A + (x : Int)) % 2 = 1
      · rw [if_pos ((pn_z_odd _).mpr ho)] at hg
        refine pn_ex hg ?_ (show m + 1 = (x + 1 + (A % 2).toNat) / 2 by omega)
        unfold pn_os
        rw [show A + (1 - A % 2) + 2 * (m : Int) = A + (x : Int) by omega]
      · rw [if_neg (fun z => ho ((pn_z_odd _).mp z))] at hg
        cases hg
        refine ⟨fun v hv => (nomatch hv), fun _ => ?_⟩
        show m = (x + 1 + (A % 2).toNat) / 2
        omega
    · rw [if_neg hc] at hg
      exact pn_exn hg
  · rw [pn_go40 (by omega)] at hg
    exact pn_exn hg
theorem pn_K5 (h0 : s 0 = num) (hs : ∀ m, s (m + 1) = sx m) : pn_K 5 num sx sy s qx qy pn_qd := by
  intro lx ly m x y hx hy hq e x' y' hg
  obtain ⟨q1, q2⟩ := hq
  by_cases hm : m < 40
  · rw [pn_go_5 hm] at hg
    by_cases hz : m = 0
    · rw [if_pos hz] at hg
      refine pn_ex hg ?_ ⟨by omega, by omega⟩
      rw [hz]
      exact h0
    · rw [if_neg hz] at hg
      by_cases hc : x < lx
      · rw [if_pos hc] at hg
        refine pn_ex hg ?_ ⟨by omega, by omega⟩
        rw [show m = x + 1 by omega]
        exact hs x
      · rw [if_neg hc] at hg
        exact pn_exn hg
  · rw [pn_go40 (by omega)] at hg
    exact pn_exn hg
theorem pn_K6 {LX LY : Nat} (hX : ∀ lx, (∃ i j, qx lx i j) → lx ≤ LX) (hY : ∀ ly, (∃ i j, qy ly i j) → ly ≤ LY) : pn_K 6 num sx sy (pn_ms sx sy) qx qy (pn_qm sx sy LX LY) := by
  intro lx ly m x y hx hy hq e x' y' hg
  obtain ⟨q1, q2, q3, q4⟩ := hq
  have hx' := hX lx hx
  have hy' := hY ly hy
  by_cases hm : m < 40
  · rw [pn_go_6 hm] at hg
    by_cases hc : x < lx ∧ y < ly
    · rw [if_pos hc] at hg
      have hk : ∀ k, k < m + 1 → (pn_path sx sy k).1 < LX ∧ (pn_path sx sy k).2 < LY := by
        intro k hk
        by_cases ek : k = m
        · rw [ek, ← q2, ← q3]
          omega
        · exact q4 k (by omega)
      by_cases hl : sy y < sx x
      · rw [if_pos hl] at hg
        rw [q2, q3] at hl
        refine pn_ex hg ?_ ⟨by omega, ?_, ?_, hk⟩
        · unfold pn_ms
          rw [if_pos hl, q3]
        · unfold pn_path
          rw [if_pos hl]
          exact q2
        · unfold pn_path
          rw [if_pos hl, q3]
      · rw [if_neg hl] at hg
        rw [q2, q3] at hl
        refine pn_ex hg ?_ ⟨by omega, ?_, ?_, hk⟩
        · unfold pn_ms
          rw [if_neg hl, q2]
        · unfold pn_path
          rw [if_neg hl, q2]
        · unfold pn_path
          rw [if_neg hl]
          exact q3
    · rw [if_neg hc] at hg
      exact pn_exn hg
  · rw [pn_go40 (by omega)] at hg
    exact pn_exn hg
/-- what a process that can't go on shows -/
theorem pn_n0 {lx ly m x y : Nat} (hg : pn_go 0 num sx sy lx ly m x y = none) : 40 ≤ m := by
  by_cases hm : m < 40
  · rw [pn_go_0 hm] at hg
    exact nomatch hg
  · omega
theorem pn_n1 {lx ly m x y : Nat} (hg : pn_go 1 num sx sy lx ly m x y = none) : 5 ≤ m := by
  by_cases hm : m < 5
  · rw [pn_go_1 (by omega), if_pos hm] at hg
    exact nomatch hg
  · omega
theorem pn_n2 {lx ly m x y : Nat} (hg : pn_go 2 num sx sy lx ly m x y = none) : 40 ≤ m ∨ lx ≤ x ∨ ly ≤ y := by
  by_cases hm : m < 40
  · rw [pn_go_2 hm] at hg
    by_cases hc : x < lx ∧ y < ly
    · rw [if_pos hc] at hg
      exact nomatch hg
    · omega
  · omega
theorem pn_n3 {lx ly m x y : Nat} (hg : pn_go 3 num sx sy lx ly m x y = none) : 40 ≤ m ∨ (m % 2 = 0 ∧ lx ≤ x) ∨ (m % 2 = 1 ∧ ly ≤ y) := by
  by_cases hm : m < 40
  · rw [pn_go_3 hm] at hg
    by_cases h2 : m % 2 = 0
    · rw [if_pos h2] at hg
      by_cases hc : x < lx
      · rw [if_pos hc] at hg
        exact nomatch hg
      · omega
    · rw [if_neg h2] at hg
      by_cases hc : y < ly
      · rw [if_pos hc] at hg
        exact nomatch hg
      · omega
  · omega
theorem pn_n4 {lx ly m x y : Nat} (hg : pn_go 4 num sx sy lx ly m x y = none) : 40 ≤ m ∨ lx ≤ x := by
  by_cases hm : m < 40
  · rw [pn_go_4 hm] at hg
    by_cases hc : x < lx
    · rw [if_pos hc] at hg
      by_cases ho : sx x &&& 1 = 1
      · rw [if_pos ho] at hg
        exact nomatch hg
      · rw [if_neg ho] at hg
        exact nomatch hg
    · omega
  · omega
theorem pn_n5 {lx ly m x y : Nat} (hg : pn_go 5 num sx sy lx ly m x y = none) : 40 ≤ m ∨ (m ≠ 0 ∧ lx ≤ x) := by
  by_cases hm : m < 40
  · rw [pn_go_5 hm] at hg
    by_cases h0 : m = 0
    · rw [if_pos h0] at hg
      exact nomatch hg
    · rw [if_neg h0] at hg
      by_cases hc : x < lx
      · rw [if_pos hc] at hg
        exact nomatch hg
      · omega
  · omega
theorem pn_n6 {lx ly m x y : Nat} (hg : pn_go 6 num sx sy lx ly m x y = none) : 40 ≤ m ∨ lx ≤ x ∨ ly ≤ y := by
  by_cases hm : m < 40
  · rw [pn_go_6 hm] at hg
    by_cases hc : x < lx ∧ y < ly
    · rw [if_pos hc] at hg
      by_cases hl : sy y < sx x
      · rw [if_pos hl] at hg
        exact nomatch hg
      · rw [if_neg hl] at hg
        exact nomatch hg
    · omega
  · omega
end
end
section
variable {A B : Int}
def pn_ks1 : List Nat := [0, 0, 3, 6, 4, 1, 1, 1]
def pn_xs1 : List Nat := [0, 0, 0, 0, 0, 0, 0, 0]
def pn_ks2 : List Nat := [0, 0, 3, 6, 4, 5, 5, 2]
def pn_xs2 : List Nat := [0, 0, 0, 0, 0, 5, 7, 6]
def pn_ks3 : List Nat := [0, 1, 3, 6, 3, 2, 5, 2]
def pn_ks4 : List Nat := [1, 0, 3, 6, 3, 2, 5, 2]
def pn_xs3 : List Nat := [0, 0, 0, 0, 4, 5, 7, 6]
def pn_ys : List Nat := [0, 0, 1, 1, 0, 0, 0, 0]
def pn_ns1 (A B : Int) : List Int32 := [pn_z A, pn_z B, 0, 0, 0, 0, 0, 0]
def pn_ns2 (A B : Int) : List Int32 := [pn_z A, pn_z B, 0, 0, 0, 7, pn_z B, 0]
def pn_ns4 (A B : Int) : List Int32 := [pn_z B, pn_z A, 0, 0, 0, 7, pn_z B, 0]
def pn_ca (A : Int) : Nat → Int32 := pn_cs (pn_z A)
def pn_lb (B : Int) : Nat → Int32 := pn_ls (pn_z B)
def pn_str1 (A B : Int) (p : Nat) : Nat → Int32 :=
  [pn_ca A, pn_ca B, pn_ts (pn_ca A) (pn_ca B), pn_ms (pn_ca A) (pn_ca B), pn_os A, pn_ls 0, pn_ls 0, pn_ls 0].getD p (fun _ => 0)
def pn_Q1 (A B : Int) (p : Nat) : Nat → Nat → Nat → Prop :=
  [pn_qc, pn_qc, pn_qt 40, pn_qm (pn_ca A) (pn_ca B) 40 40, pn_qo A, pn_ql, pn_ql, pn_ql].getD p (fun _ _ _ => False)
def pn_str2 (A B : Int) (p : Nat) : Nat → Int32 :=
  [pn_ca A, pn_ca B, pn_ts (pn_ca A) (pn_ca B), pn_ms (pn_ca A) (pn_ca B), pn_os A, (fun _ => 7), pn_s6 (pn_z B) (pn_ca A), pn_s7 (pn_z B) (pn_ca A)].getD p (fun _ => 0)
def pn_Q2 (A B : Int) (p : Nat) : Nat → Nat → Nat → Prop :=
  [pn_qc, pn_qc, pn_qt 40, pn_qm (pn_ca A) (pn_ca B) 40 40, pn_qo A, pn_qd, pn_qd, pn_qa 40].getD p (fun _ _ _ => False)
def pn_str3 (A B : Int) (p : Nat) : Nat → Int32 :=
  [pn_ca A, pn_lb B, pn_ts (pn_ca A) (pn_lb B), pn_ms (pn_ca A) (pn_lb B), (fun _ => 0), (fun _ => 0), pn_s6 (pn_z B) (pn_ca A), pn_s7 (pn_z B) (pn_ca A)].getD p (fun _ => 0)
def pn_Q3 (A B : Int) (p : Nat) : Nat → Nat → Nat → Prop :=
  [pn_qc, pn_ql, pn_qt 11, pn_qm (pn_ca A) (pn_lb B) 40 5, pn_qt 0, pn_qa 0, pn_qd, pn_qa 40].getD p (fun _ _ _ => False)
def pn_str4 (A B : Int) (p : Nat) : Nat → Int32 :=
  [pn_lb B, pn_ca A, pn_ts (pn_lb B) (pn_ca A), pn_ms (pn_lb B) (pn_ca A), (fun _ => 0), (fun _ => 0), pn_s6 (pn_z B) (pn_lb B), pn_s7 (pn_z B) (pn_lb B)].getD p (fun _ => 0)
def pn_Q4 (A B : Int) (p : Nat) : Nat → Nat → Nat → Prop :=
  [pn_ql, pn_qc, pn_qt 10, pn_qm (pn_lb B) (pn_ca A) 5 40, pn_qt 0, pn_qa 0, pn_qd, pn_qa 40].getD p (fun _ _ _ => False)
theorem pn_8 {p : Nat} (hp : p < 8) : p = 0 ∨ p = 1 ∨ p = 2 ∨ p = 3 ∨ p = 4 ∨ p = 5 ∨ p = 6 ∨ p = 7 := by omega
theorem pn_qc_le (lx : Nat) (hx : ∃ i j, pn_qc lx i j) : lx ≤ 40 := by
  obtain ⟨i, j, z⟩ := hx
  exact z
theorem pn_ql_le (lx : Nat) (hx : ∃ i j, pn_ql lx i j) : lx ≤ 5 := by
  obtain ⟨i, j, z⟩ := hx
  exact z
/-- a process that reads itself alone, and has nothing, makes nothing: kind 3 -/
theorem pn_dead3 {num : Int32} {sx sy s : Nat → Int32} {qy : Nat → Nat → Nat → Prop} : pn_K 3 num sx sy s (pn_qt 0) qy (pn_qt 0) := by
  intro lx ly m x y hx hy hq e x' y' hg
  obtain ⟨i, j, z, _, _⟩ := hx
  obtain ⟨q1, q2, q3⟩ := hq
  rw [pn_go_3 (by omega), if_pos (by omega), if_neg (by omega)] at hg
  exact pn_exn hg
theorem pn_dead2 {num : Int32} {sx sy s : Nat → Int32} {qy : Nat → Nat → Nat → Prop} : pn_K 2 num sx sy s (pn_qa 0) qy (pn_qa 0) := by
  intro lx ly m x y hx hy hq e x' y' hg
  obtain ⟨i, j, z, _, _⟩ := hx
  obtain ⟨q1, q2, q3⟩ := hq
  rw [pn_go_2 (by omega), if_neg (by omega)] at hg
  exact pn_exn hg
theorem pn_S1 : pn_S (fun p => pn_ks1.getD p 0) (fun p => pn_xs1.getD p 0) (fun p => pn_ys.getD p 0) (fun p => (pn_ns1 A B).getD p 0) (pn_str1 A B) (pn_Q1 A B) := by
  intro p lx ly m x y hp
  rcases pn_8 hp with z | z | z | z | z | z | z | z <;> subst z
  · exact pn_K0 (a := pn_z A) (sx := pn_ca A) (sy := pn_ca A) (qx := pn_qc) (qy := pn_qc) lx ly m x y
  · exact pn_K0 (a := pn_z B) (sx := pn_ca A) (sy := pn_ca A) (qx := pn_qc) (qy := pn_qc) lx ly m x y
  · exact pn_K3 (num := 0) (sx := pn_ca A) (sy := pn_ca B) (qx := pn_qc) (qy := pn_qc) (n := 40) (fun _ _ _ _ _ _ h4 => ⟨fun _ _ => h4, fun _ _ => h4⟩) lx ly m x y
  · exact pn_K6 (num := 0) (sx := pn_ca A) (sy := pn_ca B) (qx := pn_qc) (qy := pn_qc) (LX := 40) (LY := 40) pn_qc_le pn_qc_le lx ly m x y
  · exact pn_K4 (num := 0) (A := A) (sy := pn_ca A) (qx := pn_qc) (qy := pn_qc) lx ly m x y
  · exact pn_K1 (b := 0) (sx := pn_ca A) (sy := pn_ca A) (qx := pn_qc) (qy := pn_qc) lx ly m x y
  · exact pn_K1 (b := 0) (sx := pn_ca A) (sy := pn_ca A) (qx := pn_qc) (qy := pn_qc) lx ly m x y
  · exact pn_K1 (b := 0) (sx := pn_ca A) (sy := pn_ca A) (qx := pn_qc) (qy := pn_qc) lx ly m x y
theorem pn_S2 : pn_S (fun p => pn_ks2.getD p 0) (fun p => pn_xs2.getD p 0) (fun p => pn_ys.getD p 0) (fun p => (pn_ns2 A B).getD p 0) (pn_str2 A B) (pn_Q2 A B) := by
  intro p lx ly m x y hp
  rcases pn_8 hp with z | z | z | z | z | z | z | z <;> subst z
  · exact pn_K0 (a := pn_z A) (sx := pn_ca A) (sy := pn_ca A) (qx := pn_qc) (qy := pn_qc) lx ly m x y
  · exact pn_K0 (a := pn_z B) (sx := pn_ca A) (sy := pn_ca A) (qx := pn_qc) (qy := pn_qc) lx ly m x y
  · exact pn_K3 (num := 0) (sx := pn_ca A) (sy := pn_ca B) (qx := pn_qc) (qy := pn_qc) (n := 40) (fun _ _ _ _ _ _ h4 => ⟨fun _ _ => h4, fun _ _ => h4⟩) lx ly m x y
  · exact pn_K6 (num := 0) (sx := pn_ca A) (sy := pn_ca B) (qx := pn_qc) (qy := pn_qc) (LX := 40) (LY := 40) pn_qc_le pn_qc_le lx ly m x y
  · exact pn_K4 (num := 0) (A := A) (sy := pn_ca A) (qx := pn_qc) (qy := pn_qc) lx ly m x y
  · exact pn_K5 (num := 7) (sx := fun _ => 7) (sy := pn_ca A) (s := fun _ => 7) (qx := pn_qd) (qy := pn_qc) rfl (fun _ => rfl) lx ly m x y
  · exact pn_K5 (num := pn_z B) (sx := pn_s7 (pn_z B) (pn_ca A)) (sy := pn_ca A) (s := pn_s6 (pn_z B) (pn_ca A)) (qx := pn_qa 40) (qy := pn_qc) rfl (fun _ => rfl) lx ly m x y
  · exact pn_K2 (num := 0) (sx := pn_s6 (pn_z B) (pn_ca A)) (sy := pn_ca A) (s := pn_s7 (pn_z B) (pn_ca A)) (qx := pn_qd) (qy := pn_qc) (n := 40) (fun _ => rfl) (fun _ _ _ _ _ _ h4 _ _ => h4) lx ly m x y
theorem pn_S3 : pn_S (fun p => pn_ks3.getD p 0) (fun p => pn_xs3.getD p 0) (fun p => pn_ys.getD p 0) (fun p => (pn_ns2 A B).getD p 0) (pn_str3 A B) (pn_Q3 A B) := by
  intro p lx ly m x y hp
  rcases pn_8 hp with z | z | z | z | z | z | z | z <;> subst z
  · exact pn_K0 (a := pn_z A) (sx := pn_ca A) (sy := pn_ca A) (qx := pn_qc) (qy := pn_qc) lx ly m x y
  · exact pn_K1 (b := pn_z B) (sx := pn_ca A) (sy := pn_ca A) (qx := pn_qc) (qy := pn_qc) lx ly m x y
  · refine pn_K3 (num := 0) (sx := pn_ca A) (sy := pn_lb B) (qx := pn_qc) (qy := pn_ql) (n := 11) (fun lx ly m hx hy h1 h2 => ?_) lx ly m x y
    have := pn_ql_le ly hy
    exact ⟨fun _ _ => by omega, fun _ _ => by omega⟩
  · exact pn_K6 (num := 0) (sx := pn_ca A) (sy := pn_lb B) (qx := pn_qc) (qy := pn_ql) (LX := 40) (LY := 5) pn_qc_le pn_ql_le lx ly m x y
  · exact pn_dead3 (num := 0) (sx := fun _ => 0) (sy := pn_ca A) (s := fun _ => 0) (qy := pn_qc) lx ly m x y
  · exact pn_dead2 (num := 7) (sx := fun _ => 0) (sy := pn_ca A) (s := fun _ => 0) (qy := pn_qc) lx ly m x y
  · exact pn_K5 (num := pn_z B) (sx := pn_s7 (pn_z B) (pn_ca A)) (sy := pn_ca A) (s := pn_s6 (pn_z B) (pn_ca A)) (qx := pn_qa 40) (qy := pn_qc) rfl (fun _ => rfl) lx ly m x y
  · exact pn_K2 (num := 0) (sx := pn_s6 (pn_z B) (pn_ca A)) (sy := pn_ca A) (s := pn_s7 (pn_z B) (pn_ca A)) (qx := pn_qd) (qy := pn_qc) (n := 40) (fun _ => rfl) (fun _ _ _ _ _ _ h4 _ _ => h4) lx ly m x y
theorem pn_S4 : pn_S (fun p => pn_ks4.getD p 0) (fun p => pn_xs3.getD p 0) (fun p => pn_ys.getD p 0) (fun p => (pn_ns4 A B).getD p 0) (pn_str4 A B) (pn_Q4 A B) := by
  intro p lx ly m x y hp
  rcases pn_8 hp with z | z | z | z | z | z | z | z <;> subst z
  · exact pn_K1 (b := pn_z B) (sx := pn_lb B) (sy := pn_lb B) (qx := pn_ql) (qy := pn_ql) lx ly m x y
  · exact pn_K0 (a := pn_z A) (sx := pn_lb B) (sy := pn_lb B) (qx := pn_ql) (qy := pn_ql) lx ly m x y
  · refine pn_K3 (num := 0) (sx := pn_lb B) (sy := pn_ca A) (qx := pn_ql) (qy := pn_qc) (n := 10) (fun lx ly m hx hy h1 h2 => ?_) lx ly m x y
    have := pn_ql_le lx hx
    exact ⟨fun _ _ => by omega, fun _ _ => by omega⟩
  · exact pn_K6 (num := 0) (sx := pn_lb B) (sy := pn_ca A) (qx := pn_ql) (qy := pn_qc) (LX := 5) (LY := 40) pn_ql_le pn_qc_le lx ly m x y
  · exact pn_dead3 (num := 0) (sx := fun _ => 0) (sy := pn_lb B) (s := fun _ => 0) (qy := pn_ql) lx ly m x y
  · exact pn_dead2 (num := 7) (sx := fun _ => 0) (sy := pn_lb B) (s := fun _ => 0) (qy := pn_ql) lx ly m x y
  · exact pn_K5 (num := pn_z B) (sx := pn_s7 (pn_z B) (pn_lb B)) (sy := pn_lb B) (s := pn_s6 (pn_z B) (pn_lb B)) (qx := pn_qa 40) (qy := pn_ql) rfl (fun _ => rfl) lx ly m x y
  · exact pn_K2 (num := 0) (sx := pn_s6 (pn_z B) (pn_lb B)) (sy := pn_lb B) (s := pn_s7 (pn_z B) (pn_lb B)) (qx := pn_qd) (qy := pn_ql) (n := 40) (fun _ => rfl) (fun _ _ _ _ _ _ h4 _ _ => h4) lx ly m x y
/-- lengths of all streams -/
def pn_P (ls : List Nat) (md : Nat → Nat) : Prop := ∀ q, q < 8 → md q = ls.getD q 0
theorem pn_P8 {ls : List Nat} {md : Nat → Nat} (h0 : md 0 = ls.getD 0 0) (h1 : md 1 = ls.getD 1 0) (h2 : md 2 = ls.getD 2 0) (h3 : md 3 = ls.getD 3 0) (h4 : md 4 = ls.getD 4 0) (h5 : md 5 = ls.getD 5 0) (h6 : md 6 = ls.getD 6 0) (h7 : md 7 = ls.getD 7 0) : pn_P ls md := by
  intro q hq
  rcases pn_8 hq with z | z | z | z | z | z | z | z <;> subst z <;> assumption
theorem pn_Q1_0 : ∀ q, q < 8 → pn_Q1 A B q 0 0 0 := by
  intro q hq
  rcases pn_8 hq with z | z | z | z | z | z | z | z <;> subst z
  · exact Nat.zero_le 40
  · exact Nat.zero_le 40
  · exact ⟨Nat.zero_le 40, rfl, rfl⟩
  · exact ⟨Nat.zero_le 40, rfl, rfl, fun k hk => absurd hk (Nat.not_lt_zero k)⟩
  · show 0 = (0 + (A % 2).toNat) / 2
    omega
  · exact Nat.zero_le 5
  · exact Nat.zero_le 5
  · exact Nat.zero_le 5
theorem pn_Q2_0 : ∀ q, q < 8 → pn_Q2 A B q 0 0 0 := by
  intro q hq
  rcases pn_8 hq with z | z | z | z | z | z | z | z <;> subst z
  · exact Nat.zero_le 40
  · exact Nat.zero_le 40
  · exact ⟨Nat.zero_le 40, rfl, rfl⟩
  · exact ⟨Nat.zero_le 40, rfl, rfl, fun k hk => absurd hk (Nat.not_lt_zero k)⟩
  · show 0 = (0 + (A % 2).toNat) / 2
    omega
  · exact ⟨Nat.zero_le 40, rfl⟩
  · exact ⟨Nat.zero_le 40, rfl⟩
  · exact ⟨Nat.zero_le 40, rfl, rfl⟩
theorem pn_Q3_0 : ∀ q, q < 8 → pn_Q3 A B q 0 0 0 := by
  intro q hq
  rcases pn_8 hq with z | z | z | z | z | z | z | z <;> subst z
  · exact Nat.zero_le 40
  · exact Nat.zero_le 5
  · exact ⟨Nat.zero_le 11, rfl, rfl⟩
  · exact ⟨Nat.zero_le 40, rfl, rfl, fun k hk => absurd hk (Nat.not_lt_zero k)⟩
  · exact ⟨Nat.zero_le 0, rfl, rfl⟩
  · exact ⟨Nat.zero_le 0, rfl, rfl⟩
  · exact ⟨Nat.zero_le 40, rfl⟩
  · exact ⟨Nat.zero_le 40, rfl, rfl⟩
theorem pn_Q4_0 : ∀ q, q < 8 → pn_Q4 A B q 0 0 0 := by
  intro q hq
  rcases pn_8 hq with z | z | z | z | z | z | z | z <;> subst z
  · exact Nat.zero_le 5
  · exact Nat.zero_le 40
  · exact ⟨Nat.zero_le 10, rfl, rfl⟩
  · exact ⟨Nat.zero_le 40, rfl, rfl, fun k hk => absurd hk (Nat.not_lt_zero k)⟩
  · exact ⟨Nat.zero_le 0, rfl, rfl⟩
  · exact ⟨Nat.zero_le 0, rfl, rfl⟩
  · exact ⟨Nat.zero_le 40, rfl⟩
  · exact ⟨Nat.zero_le 40, rfl, rfl⟩
theorem pn_P1 (md rx ry : Nat → Nat) (hq : ∀ q, q < 8 → md q ≤ 40 ∧ rx q ≤ 40 ∧ ry q ≤ 40 ∧ pn_Q1 A B q (md q) (rx q) (ry q))
    (hg : ∀ q, q < 8 → pn_g (fun p => pn_ks1.getD p 0) (fun p => pn_xs1.getD p 0) (fun p => pn_ys.getD p 0) (fun p => (pn_ns1 A B).getD p 0) (pn_str1 A B) md rx ry q = none) : pn_P [40, 40, 40, 40, 20, 5, 5, 5] md := by
  have g0 : 40 ≤ md 0 := pn_n0 (hg 0 (by omega))
  have g1 : 40 ≤ md 1 := pn_n0 (hg 1 (by omega))
  have g2 : 40 ≤ md 2 ∨ (md 2 % 2 = 0 ∧ md 0 ≤ rx 2) ∨ (md 2 % 2 = 1 ∧ md 1 ≤ ry 2) := pn_n3 (hg 2 (by omega))
  have g3 : 40 ≤ md 3 ∨ md 0 ≤ rx 3 ∨ md 1 ≤ ry 3 := pn_n6 (hg 3 (by omega))
  have g4 : 40 ≤ md 4 ∨ md 0 ≤ rx 4 := pn_n4 (hg 4 (by omega))
  have g5 : 5 ≤ md 5 := pn_n1 (hg 5 (by omega))
  have g6 : 5 ≤ md 6 := pn_n1 (hg 6 (by omega))
  have g7 : 5 ≤ md 7 := pn_n1 (hg 7 (by omega))
  have b0 := (hq 0 (by omega)).1
  have b1 := (hq 1 (by omega)).1
  have b2 := (hq 2 (by omega)).1
  have b3 := (hq 3 (by omega)).1
  have b4 := (hq 4 (by omega)).2.1
  obtain ⟨_, c2, c2'⟩ : md 2 ≤ 40 ∧ rx 2 = (md 2 + 1) / 2 ∧ ry 2 = md 2 / 2 := (hq 2 (by omega)).2.2.2
  obtain ⟨_, c3, c3', _⟩ : pn_qm (pn_ca A) (pn_ca B) 40 40 (md 3) (rx 3) (ry 3) := (hq 3 (by omega)).2.2.2
  have c4 : md 4 = (rx 4 + (A % 2).toNat) / 2 := (hq 4 (by omega)).2.2.2
  have c5 : md 5 ≤ 5 := (hq 5 (by omega)).2.2.2
  have c6 : md 6 ≤ 5 := (hq 6 (by omega)).2.2.2
  have c7 : md 7 ≤ 5 := (hq 7 (by omega)).2.2.2
  have sm := pn_path_sum (pn_ca A) (pn_ca B) (md 3)
  have ho : (A % 2).toNat ≤ 1 := by omega
  refine pn_P8 ?_ ?_ ?_ ?_ ?_ ?_ ?_ ?_
  · show md 0 = 40
    omega
  · show md 1 = 40
    omega
  · show md 2 = 40
    omega
  · show md 3 = 40
    omega
  · show md 4 = 20
    omega
  · show md 5 = 5
    omega
  · show md 6 = 5
    omega
  · show md 7 = 5
    omega
theorem pn_P2 (md rx ry : Nat → Nat) (hq : ∀ q, q < 8 → md q ≤ 40 ∧ rx q ≤ 40 ∧ ry q ≤ 40 ∧ pn_Q2 A B q (md q) (rx q) (ry q))
    (hg : ∀ q, q < 8 → pn_g (fun p => pn_ks2.getD p 0) (fun p => pn_xs2.getD p 0) (fun p => pn_ys.getD p 0) (fun p => (pn_ns2 A B).getD p 0) (pn_str2 A B) md rx ry q = none) : pn_P [40, 40, 40, 40, 20, 40, 40, 40] md := by
  have g0 : 40 ≤ md 0 := pn_n0 (hg 0 (by omega))
  have g1 : 40 ≤ md 1 := pn_n0 (hg 1 (by omega))
  have g2 : 40 ≤ md 2 ∨ (md 2 % 2 = 0 ∧ md 0 ≤ rx 2) ∨ (md 2 % 2 = 1 ∧ md 1 ≤ ry 2) := pn_n3 (hg 2 (by omega))
  have g3 : 40 ≤ md 3 ∨ md 0 ≤ rx 3 ∨ md 1 ≤ ry 3 := pn_n6 (hg 3 (by omega))
  have g4 : 40 ≤ md 4 ∨ md 0 ≤ rx 4 := pn_n4 (hg 4 (by omega))
  have g5 : 40 ≤ md 5 ∨ (md 5 ≠ 0 ∧ md 5 ≤ rx 5) := pn_n5 (hg 5 (by omega))
  have g6 : 40 ≤ md 6 ∨ (md 6 ≠ 0 ∧ md 7 ≤ rx 6) := pn_n5 (hg 6 (by omega))
  have g7 : 40 ≤ md 7 ∨ md 6 ≤ rx 7 ∨ md 0 ≤ ry 7 := pn_n2 (hg 7 (by omega))
  have b0 := (hq 0 (by omega)).1
  have b1 := (hq 1 (by omega)).1
  have b2 := (hq 2 (by omega)).1
  have b3 := (hq 3 (by omega)).1
  have b4 := (hq 4 (by omega)).2.1
  have b5 := (hq 5 (by omega)).1
  have b6 := (hq 6 (by omega)).1
  have b7 := (hq 7 (by omega)).1
  obtain ⟨_, c2, c2'⟩ : md 2 ≤ 40 ∧ rx 2 = (md 2 + 1) / 2 ∧ ry 2 = md 2 / 2 := (hq 2 (by omega)).2.2.2
  obtain ⟨_, c3, c3', _⟩ : pn_qm (pn_ca A) (pn_ca B) 40 40 (md 3) (rx 3) (ry 3) := (hq 3 (by omega)).2.2.2
  have c4 : md 4 = (rx 4 + (A % 2).toNat) / 2 := (hq 4 (by omega)).2.2.2
  obtain ⟨_, c5⟩ : md 5 ≤ 40 ∧ rx 5 = md 5 - 1 := (hq 5 (by omega)).2.2.2
  obtain ⟨_, c6⟩ : md 6 ≤ 40 ∧ rx 6 = md 6 - 1 := (hq 6 (by omega)).2.2.2
  obtain ⟨_, c7, c7'⟩ : md 7 ≤ 40 ∧ rx 7 = md 7 ∧ ry 7 = md 7 := (hq 7 (by omega)).2.2.2
  have sm := pn_path_sum (pn_ca A) (pn_ca B) (md 3)
  have ho : (A % 2).toNat ≤ 1 := by omega
  refine pn_P8 ?_ ?_ ?_ ?_ ?_ ?_ ?_ ?_
  · show md 0 = 40
    omega
  · show md 1 = 40
    omega
  · show md 2 = 40
    omega
  · show md 3 = 40
    omega
  · show md 4 = 20
    omega
  · show md 5 = 40
    omega
  · show md 6 = 40
    omega
  · show md 7 = 40
    omega
/-- where the merge of the third network ends -/
def pn_M (s t : Nat → Int32) (M : Nat) : Prop := (40 ≤ M ∨ 40 ≤ (pn_path s t M).1 ∨ 5 ≤ (pn_path s t M).2) ∧ ∀ k, k < M → ¬ (40 ≤ k ∨ 40 ≤ (pn_path s t k).1 ∨ 5 ≤ (pn_path s t k).2)
theorem pn_M_ex (s t : Nat → Int32) : ∃ M, pn_M s t M := pk_least (fun k => 40 ≤ k ∨ 40 ≤ (pn_path s t k).1 ∨ 5 ≤ (pn_path s t k).2) ⟨40, Or.inl (Nat.le_refl 40)⟩
theorem pn_M_in {s t : Nat → Int32} {M : Nat} (hM : pn_M s t M) : 5 ≤ M ∧ M ≤ 40 := by
  have h1 := pn_path_sum s t M
  have h2 := hM.1
  refine ⟨by omega, ?_⟩
  rcases Nat.lt_or_ge 40 M with z | z
  · exact absurd (Or.inl (Nat.le_refl 40)) (hM.2 40 z)
  · exact z
theorem pn_M_un {s t : Nat → Int32} {M M' : Nat} (hM : pn_M s t M) (hM' : pn_M s t M') : M' = M := by
  rcases Nat.lt_trichotomy M M' with z | z | z
  · exact absurd hM.1 (hM'.2 M z)
  · exact z.symm
  · exact absurd hM'.1 (hM.2 M' z)
theorem pn_P3 {M : Nat} (hM : pn_M (pn_ca A) (pn_lb B) M) (md rx ry : Nat → Nat) (hq : ∀ q, q < 8 → md q ≤ 40 ∧ rx q ≤ 40 ∧ ry q ≤ 40 ∧ pn_Q3 A B q (md q) (rx q) (ry q))
    (hg : ∀ q, q < 8 → pn_g (fun p => pn_ks3.getD p 0) (fun p => pn_xs3.getD p 0) (fun p => pn_ys.getD p 0) (fun p => (pn_ns2 A B).getD p 0) (pn_str3 A B) md rx ry q = none) : pn_P [40, 5, 11, M, 0, 0, 40, 40] md := by
  have g0 : 40 ≤ md 0 := pn_n0 (hg 0 (by omega))
  have g1 : 5 ≤ md 1 := pn_n1 (hg 1 (by omega))
  have g2 : 40 ≤ md 2 ∨ (md 2 % 2 = 0 ∧ md 0 ≤ rx 2) ∨ (md 2 % 2 = 1 ∧ md 1 ≤ ry 2) := pn_n3 (hg 2 (by omega))
  have g3 : 40 ≤ md 3 ∨ md 0 ≤ rx 3 ∨ md 1 ≤ ry 3 := pn_n6 (hg 3 (by omega))
  have g6 : 40 ≤ md 6 ∨ (md 6 ≠ 0 ∧ md 7 ≤ rx 6) := pn_n5 (hg 6 (by omega))
  have g7 : 40 ≤ md 7 ∨ md 6 ≤ rx 7 ∨ md 0 ≤ ry 7 := pn_n2 (hg 7 (by omega))
  have b0 := (hq 0 (by omega)).1
  have b6 := (hq 6 (by omega)).1
  have b7 := (hq 7 (by omega)).1
  have c1 : md 1 ≤ 5 := (hq 1 (by omega)).2.2.2
  obtain ⟨c2, c2', c2''⟩ : md 2 ≤ 11 ∧ rx 2 = (md 2 + 1) / 2 ∧ ry 2 = md 2 / 2 := (hq 2 (by omega)).2.2.2
  obtain ⟨c3, c3', c3'', c3k⟩ : pn_qm (pn_ca A) (pn_lb B) 40 5 (md 3) (rx 3) (ry 3) := (hq 3 (by omega)).2.2.2
  have c4 : md 4 ≤ 0 := (hq 4 (by omega)).2.2.2.1
  have c5 : md 5 ≤ 0 := (hq 5 (by omega)).2.2.2.1
  obtain ⟨_, c6⟩ : md 6 ≤ 40 ∧ rx 6 = md 6 - 1 := (hq 6 (by omega)).2.2.2
  obtain ⟨_, c7, c7'⟩ : md 7 ≤ 40 ∧ rx 7 = md 7 ∧ ry 7 = md 7 := (hq 7 (by omega)).2.2.2
  have hM' : pn_M (pn_ca A) (pn_lb B) (md 3) := by
    refine ⟨by omega, fun k hk => ?_⟩
    have := c3k k hk
    omega
  refine pn_P8 ?_ ?_ ?_ ?_ ?_ ?_ ?_ ?_
  · show md 0 = 40
    omega
  · show md 1 = 5
    omega
  · show md 2 = 11
    omega
  · exact pn_M_un hM hM'
  · show md 4 = 0
    omega
  · show md 5 = 0
    omega
  · show md 6 = 40
    omega
  · show md 7 = 40
    omega
def pn_P4 (md : Nat → Nat) : Prop := md 0 = 5 ∧ md 1 = 40 ∧ md 2 = 10
theorem pn_P4_ok (md rx ry : Nat → Nat) (hq : ∀ q, q < 8 → md q ≤ 40 ∧ rx q ≤ 40 ∧ ry q ≤ 40 ∧ pn_Q4 A B q (md q) (rx q) (ry q))
    (hg : ∀ q, q < 8 → pn_g (fun p => pn_ks4.getD p 0) (fun p => pn_xs3.getD p 0) (fun p => pn_ys.getD p 0) (fun p => (pn_ns4 A B).getD p 0) (pn_str4 A B) md rx ry q = none) : pn_P4 md := by
  have g0 : 5 ≤ md 0 := pn_n1 (hg 0 (by omega))
  have g1 : 40 ≤ md 1 := pn_n0 (hg 1 (by omega))
  have g2 : 40 ≤ md 2 ∨ (md 2 % 2 = 0 ∧ md 0 ≤ rx 2) ∨ (md 2 % 2 = 1 ∧ md 1 ≤ ry 2) := pn_n3 (hg 2 (by omega))
  have b1 := (hq 1 (by omega)).1
  have c0 : md 0 ≤ 5 := (hq 0 (by omega)).2.2.2
  obtain ⟨c2, c2', c2''⟩ : md 2 ≤ 10 ∧ rx 2 = (md 2 + 1) / 2 ∧ ry 2 = md 2 / 2 := (hq 2 (by omega)).2.2.2
  exact ⟨by omega, by omega, by omega⟩
end
section
variable {A B : Int}
theorem pn_ca_z (A : Int) (x : Nat) : pn_ca A x = pn_z (A + x) := pn_cs_z A x
theorem pn_ca_lt {x y : Nat} (hA : -500 ≤ A) (hA' : A ≤ 499) (hB : -500 ≤ B) (hB' : B ≤ 499) (hx : x ≤ 100) (hy : y ≤ 100) : pn_ca B y < pn_ca A x ↔ B + y < A + x := by
  rw [pn_ca_z, pn_ca_z]
  exact pn_z_lt (by omega) (by omega) (by omega) (by omega)
def pn_inv (A B : Int) (m x y : Nat) : Prop :=
  x + y = m ∧ ((y = 0 ∧ A + x ≤ B) ∨ (x = 0 ∧ B + y ≤ A) ∨ A + x = B + y ∨ A + x = B + y + 1)
theorem pn_path_inv (hA : -500 ≤ A) (hA' : A ≤ 499) (hB : -500 ≤ B) (hB' : B ≤ 499) :
    ∀ m, m ≤ 40 → pn_inv A B m (pn_path (pn_ca A) (pn_ca B) m).1 (pn_path (pn_ca A) (pn_ca B) m).2 := by
  intro m
  induction m with
  | zero =>
    intro _
    show 0 + 0 = 0 ∧ _
    refine ⟨rfl, ?_⟩
    show ((0 : Nat) = 0 ∧ A + ((0 : Nat) : Int) ≤ B) ∨ ((0 : Nat) = 0 ∧ B + ((0 : Nat) : Int) ≤ A) ∨ A + ((0 : Nat) : Int) = B + ((0 : Nat) : Int) ∨ A + ((0 : Nat) : Int) = B + ((0 : Nat) : Int) + 1
    omega
  | succ m ih =>
    intro hm
    obtain ⟨i1, i2⟩ := ih (by omega)
    unfold pn_path
    by_cases hc : pn_ca B (pn_path (pn_ca A) (pn_ca B) m).2 < pn_ca A (pn_path (pn_ca A) (pn_ca B) m).1
    · rw [if_pos hc]
      have hc' := (pn_ca_lt hA hA' hB hB' (by omega) (by omega)).mp hc
      unfold pn_inv
      dsimp only
      omega
    · rw [if_neg hc]
      have hc' : ¬ _ := fun z => hc ((pn_ca_lt hA hA' hB hB' (by omega) (by omega)).mpr z)
      unfold pn_inv
      dsimp only
      omega
theorem pn_ms_val {i : Nat} (hA : -500 ≤ A) (hA' : A ≤ 499) (hB : -500 ≤ B) (hB' : B ≤ 499) (hi : i < 40) :
    ∃ v : Int, pn_ms (pn_ca A) (pn_ca B) i = pn_z v ∧ (A ≤ B → ((i : Int) ≤ B - A → v = A + i) ∧ (B - A ≤ i → v = B + ((i : Int) - (B - A)) / 2)) ∧
      (B ≤ A → ((i : Int) ≤ A - B → v = B + i) ∧ (A - B ≤ i → v = A + ((i : Int) - (A - B)) / 2)) := by
  obtain ⟨i1, i2⟩ := pn_path_inv hA hA' hB hB' i (by omega)
  unfold pn_ms
  by_cases hc : pn_ca B (pn_path (pn_ca A) (pn_ca B) i).2 < pn_ca A (pn_path (pn_ca A) (pn_ca B) i).1
  · rw [if_pos hc]
    have hc' := (pn_ca_lt hA hA' hB hB' (by omega) (by omega)).mp hc
    refine ⟨_, pn_ca_z _ _, ?_⟩
    omega
  · rw [if_neg hc]
    have hc' : ¬ _ := fun z => hc ((pn_ca_lt hA hA' hB hB' (by omega) (by omega)).mpr z)
    refine ⟨_, pn_ca_z _ _, ?_⟩
    omega
def pn_tri : Nat → Nat
  | 0 => 0
  | n + 1 => pn_tri n + n
theorem pn_tri_is : ∀ i, i < 40 → pn_tri (i + 1) = i * (i + 1) / 2 := by decide
theorem pn_tot_c (a : Int32) (n : Nat) : pn_tot (pn_cs a) n = nI n * a + nI (pn_tri n) := by
  induction n with
  | zero =>
    show (0 : Int32) = nI 0 * a + nI 0
    rw [nI_0]
    grind
  | succ n ih =>
    show pn_tot (pn_cs a) n + (a + nI n) = nI (n + 1) * a + nI (pn_tri n + n)
    rw [ih, ← nI_1, ← nI_add]
    grind
theorem pn_sum40 : pn_tot (pn_ca A) 40 = 40 * pn_z A + 780 := pn_tot_c (pn_z A) 40
theorem pn_s6_c (a b : Int32) (n : Nat) : pn_s6 b (pn_cs a) n = b + nI n * a + nI (pn_tri n) := by
  induction n with
  | zero =>
    show b = b + nI 0 * a + nI 0
    rw [nI_0]
    grind
  | succ n ih =>
    show pn_s6 b (pn_cs a) n + (a + nI n) = b + nI (n + 1) * a + nI (pn_tri n + n)
    rw [ih, ← nI_1, ← nI_add]
    grind
theorem pn_s7_c {i : Nat} (hi : i < 40) : pn_s7 (pn_z B) (pn_ca A) i = pn_z B + (nI i + 1) * pn_z A + nI i * (nI i + 1) / 2 := by
  have e1 : pn_s7 (pn_z B) (pn_ca A) i = pn_z B + nI (i + 1) * pn_z A + nI (pn_tri (i + 1)) := pn_s6_c (pn_z A) (pn_z B) (i + 1)
  have h2 : i * (i + 1) < 2 ^ 31 := by
    have : i * (i + 1) ≤ 40 * 40 := Nat.mul_le_mul (by omega) (by omega)
    omega
  have e2 : nI (i * (i + 1)) / 2 = nI (i * (i + 1) / 2) := pk_div (d := 2) h2 (by decide) (by decide)
  rw [e1, pn_tri_is i hi, ← e2, nI_1, pk_mul]
theorem pn_arg (x : Int32) : ∃ A : Int, -500 ≤ A ∧ A ≤ 499 ∧ ((x &&& 2147483647) - (x &&& 2147483647) / 1000 * 1000) - 500 = pn_z A := by
  obtain ⟨n, hn, e⟩ := pk_andE x (m := 2147483647) 31 (by decide)
  have h := pk_rem (a := n) (d := 1000) hn (by omega) (by omega)
  have h' : nI n - nI n / 1000 * 1000 = nI (n % 1000) := h
  have e5 : (500 : Int32) = pn_z 500 := rfl
  refine ⟨((n % 1000 : Nat) : Int) - 500, by omega, by omega, ?_⟩
  rw [e, h', e5, pn_z_n, pn_z_sub]
theorem pn_idx (x : Int32) : ∃ i : Nat, i < 40 ∧ (x &&& 2147483647) - (x &&& 2147483647) / 40 * 40 = nI i := by
  obtain ⟨n, hn, e⟩ := pk_andE x (m := 2147483647) 31 (by decide)
  have h := pk_rem (a := n) (d := 40) hn (by omega) (by omega)
  have h' : nI n - nI n / 40 * 40 = nI (n % 40) := h
  exact ⟨n % 40, by omega, by rw [e, h']⟩
/-- what the law takes as due, of the merge -/
theorem pn_due1 {i : Nat} (hA : -500 ≤ A) (hA' : A ≤ 499) (hB : -500 ≤ B) (hB' : B ≤ 499) (hi : i < 40) (hBA : B ≤ A) (hgap : A - B ≤ i) :
    (pn_z B + (pn_z A - pn_z B)) + ((nI i - (pn_z A - pn_z B)) / 2) = pn_ms (pn_ca A) (pn_ca B) i := by
  obtain ⟨v, hv, _, h2⟩ := pn_ms_val hA hA' hB hB' hi
  have hv2 := (h2 hBA).2 hgap
  have e1 : nI i - (pn_z A - pn_z B) = nI ((i : Int) - (A - B)).toNat := by
    rw [pn_z_n, pn_z_n, pn_z_sub, pn_z_sub]
    congr 1
    omega
  have e2 : nI ((i : Int) - (A - B)).toNat / 2 = nI (((i : Int) - (A - B)).toNat / 2) := pk_div (d := 2) (by omega) (by decide) (by decide)
  rw [hv, e1, e2, pn_z_n, pn_z_sub, pn_z_add, pn_z_add, hv2]
  congr 1
  omega
theorem pn_due2 {i : Nat} (hA : -500 ≤ A) (hA' : A ≤ 499) (hB : -500 ≤ B) (hB' : B ≤ 499) (hi : i < 40) (hAB : A ≤ B) (hgap : B - A ≤ i) :
    (pn_z A + (pn_z B - pn_z A)) + ((nI i - (pn_z B - pn_z A)) / 2) = pn_ms (pn_ca A) (pn_ca B) i := by
  obtain ⟨v, hv, h1, _⟩ := pn_ms_val hA hA' hB hB' hi
  have hv2 := (h1 hAB).2 hgap
  have e1 : nI i - (pn_z B - pn_z A) = nI ((i : Int) - (B - A)).toNat := by
    rw [pn_z_n, pn_z_n, pn_z_sub, pn_z_sub]
    congr 1
    omega
  have e2 : nI ((i : Int) - (B - A)).toNat / 2 = nI (((i : Int) - (B - A)).toNat / 2) := pk_div (d := 2) (by omega) (by decide) (by decide)
  rw [hv, e1, e2, pn_z_n, pn_z_sub, pn_z_add, pn_z_add, hv2]
  congr 1
  omega
theorem pn_due3 {i : Nat} (hA : -500 ≤ A) (hA' : A ≤ 499) (hB : -500 ≤ B) (hB' : B ≤ 499) (hi : i < 40) (hBA : B ≤ A) (hgap : (i : Int) ≤ A - B) :
    pn_z B + nI i = pn_ms (pn_ca A) (pn_ca B) i := by
  obtain ⟨v, hv, _, h2⟩ := pn_ms_val hA hA' hB hB' hi
  rw [hv, (h2 hBA).1 hgap, pn_z_n, pn_z_add]
theorem pn_due4 {i : Nat} (hA : -500 ≤ A) (hA' : A ≤ 499) (hB : -500 ≤ B) (hB' : B ≤ 499) (hi : i < 40) (hAB : A ≤ B) (hgap : (i : Int) ≤ B - A) :
    pn_z A + nI i = pn_ms (pn_ca A) (pn_ca B) i := by
  obtain ⟨v, hv, h1, _⟩ := pn_ms_val hA hA' hB hB' hi
  rw [hv, (h1 hAB).1 hgap, pn_z_n, pn_z_add]
theorem pn_low1 (hA : -500 ≤ A) (hA' : A ≤ 499) (hB : -500 ≤ B) (hB' : B ≤ 499) (hBA : B ≤ A) : pn_z B = pn_ms (pn_ca A) (pn_ca B) 0 := by
  obtain ⟨v, hv, _, h2⟩ := pn_ms_val (i := 0) hA hA' hB hB' (by omega)
  rw [hv, (h2 hBA).1 (by omega)]
  congr 1
  omega
theorem pn_low2 (hA : -500 ≤ A) (hA' : A ≤ 499) (hB : -500 ≤ B) (hB' : B ≤ 499) (hAB : A ≤ B) : pn_z A = pn_ms (pn_ca A) (pn_ca B) 0 := by
  obtain ⟨v, hv, h1, _⟩ := pn_ms_val (i := 0) hA hA' hB hB' (by omega)
  rw [hv, (h1 hAB).1 (by omega)]
  congr 1
  omega
theorem pn_first1 {i : Nat} (ho : pn_z A &&& 1 = 1) : pn_os A i = pn_z A + 2 * nI i := by
  have h1 := (pn_z_odd A).mp ho
  have e2 : (2 : Int32) = pn_z 2 := rfl
  unfold pn_os
  rw [e2, pn_z_n, pn_z_mul, pn_z_add]
  congr 1
  omega
theorem pn_first2 {i : Nat} (ho : ¬ pn_z A &&& 1 = 1) : pn_os A i = (pn_z A + 1) + 2 * nI i := by
  have h1 : ¬ A % 2 = 1 := fun z => ho ((pn_z_odd A).mpr z)
  have e2 : (2 : Int32) = pn_z 2 := rfl
  have e1 : (1 : Int32) = pn_z 1 := rfl
  unfold pn_os
  rw [e2, e1, pn_z_n, pn_z_mul, pn_z_add, pn_z_add]
  congr 1
  omega
theorem pn_ca_inj {i j : Nat} (hA : -500 ≤ A) (hA' : A ≤ 499) (hi : i ≤ 100) (hj : j ≤ 100) (e : pn_ca A i = pn_ca A j) : i = j := by
  rw [pn_ca_z, pn_ca_z, pn_z_eq (by omega) (by omega) (by omega) (by omega)] at e
  omega
theorem pn_lb4 : pn_lb B 4 = 9 * pn_z B := by
  have e : (2 * nI 4 + 1 : Int32) = 9 := by decide
  show pn_z B * (2 * nI 4 + 1) = 9 * pn_z B
  rw [e, Int32.mul_comm]
end
section
variable {w h : Int32} {a1 a2 a3 a4 a5 a6 a7 a8 a9 a10 a11 : Nat → Int32}
variable {A B : Int} {i mc ms kc ks M : Nat} {x2 : Int32} {post : Int32 → St0 → Prop}
abbrev pn_G1 (A B : Int) : St2 → Prop := pn_G pn_ks1 pn_xs1 pn_ys (pn_ns1 A B) (pn_str1 A B) (pn_Q1 A B) (pn_P [40, 40, 40, 40, 20, 5, 5, 5])
abbrev pn_G2 (A B : Int) : St2 → Prop := pn_G pn_ks2 pn_xs2 pn_ys (pn_ns2 A B) (pn_str2 A B) (pn_Q2 A B) (pn_P [40, 40, 40, 40, 20, 40, 40, 40])
abbrev pn_G3 (A B : Int) (M : Nat) : St2 → Prop := pn_G pn_ks3 pn_xs3 pn_ys (pn_ns2 A B) (pn_str3 A B) (pn_Q3 A B) (pn_P [40, 5, 11, M, 0, 0, 40, 40])
abbrev pn_G4 (A B : Int) : St2 → Prop := pn_G pn_ks4 pn_xs3 pn_ys (pn_ns4 A B) (pn_str4 A B) (pn_Q4 A B) pn_P4
abbrev pn_F3 (A B : Int) : St2 → Prop := pn_F pn_ks3 pn_xs3 pn_ys (pn_ns2 A B)
theorem pn_W3 {u : St2} (hM : pn_M (pn_ca A) (pn_lb B) M) (hF : pn_F3 A B u) : pn_W (pn_G3 A B M) u := pn_W_F hF pn_S3 pn_Q3_0 (pn_P3 hM)
theorem pn_W4 {u : St2} (hF : pn_F pn_ks4 pn_xs3 pn_ys (pn_ns4 A B) u) : pn_W (pn_G4 A B) u := pn_W_F hF pn_S4 pn_Q4_0 pn_P4_ok
/-- the law's last rows: behind the second exchange -/
theorem pn_L415 (hp : post 1 ()) (hA : -500 ≤ A) (hA' : A ≤ 499) (hi : i < 40) {z0 z1 : Int32} (hz : z1 = z0) (hG : pn_G2 A B (w, h, a1, a2, a3, a4, a5, a6, a7, a8, a9, a10, a11)) :
    wL_lawOf_415 post mc ms x2 (pn_z A) (pn_z B) (nI i) z0 z1 kc ks w h a1 a2 a3 a4 a5 a6 a7 a8 a9 a10 a11 := by
  obtain ⟨M, hM⟩ := pn_M_ex (pn_ca A) (pn_lb B)
  obtain ⟨hM5, hM40⟩ := pn_M_in hM
  unfold wL_lawOf_415
  refine br_t hz ?_
  refine pn_item (p := 7) (v := 40) (pn_W_G hG) (by decide) (by omega) (fun md hP => hP 7 (by decide)) (fun _ u hG => ?_) (fun z => absurd z (by omega))
  obtain ⟨w, h, a1, a2, a3, a4, a5, a6, a7, a8, a9, a10, a11⟩ := u
  refine pn_item (p := 6) (v := 40) (pn_W_G hG) (by decide) (by omega) (fun md hP => hP 6 (by decide)) (fun _ u hG => ?_) (fun z => absurd z (by omega))
  obtain ⟨w, h, a1, a2, a3, a4, a5, a6, a7, a8, a9, a10, a11⟩ := u
  refine pn_item (p := 0) (v := 40) (pn_W_G hG) (by decide) (by omega) (fun md hP => hP 0 (by decide)) (fun _ u hG => ?_) (fun z => absurd z (by omega))
  obtain ⟨w, h, a1, a2, a3, a4, a5, a6, a7, a8, a9, a10, a11⟩ := u
  refine br_t rfl ?_
  refine pn_item (p := 7) (v := 40) (pn_W_G hG) (by decide) (by omega) (fun md hP => hP 7 (by decide)) (fun _ u hG => ?_) (fun z => absurd z (by omega))
  obtain ⟨w, h, a1, a2, a3, a4, a5, a6, a7, a8, a9, a10, a11⟩ := u
  refine And.intro (by decide) (br_t (pn_s7_c hi) ?_)
  refine pn_full (v := 7) (pn_W_G hG) (fun md hP => ?_) (fun u hG => ?_)
  · unfold pn_P at hP
    simp [pn_cnt, hP]
  obtain ⟨w, h, a1, a2, a3, a4, a5, a6, a7, a8, a9, a10, a11⟩ := u
  refine br_t rfl ?_
  refine pn_set (p := 5) (k := 2) (c := 5) (pn_G_V hG) (by decide) (by decide) (by decide) rfl rfl rfl rfl (fun u hF => ?_)
  obtain ⟨w, h, a1, a2, a3, a4, a5, a6, a7, a8, a9, a10, a11⟩ := u
  refine pn_set (p := 4) (k := 3) (c := 4) (pn_F_V hF) (by decide) (by decide) (by decide) rfl rfl rfl rfl (fun u hF => ?_)
  obtain ⟨w, h, a1, a2, a3, a4, a5, a6, a7, a8, a9, a10, a11⟩ := u
  refine pn_set (p := 1) (k := 1) (c := 0) (pn_F_V hF) (by decide) (by decide) (by decide) rfl rfl rfl rfl (fun u hF => ?_)
  obtain ⟨w, h, a1, a2, a3, a4, a5, a6, a7, a8, a9, a10, a11⟩ := u
  have hF3 : pn_F3 A B (w, h, a1, a2, a3, a4, a5, a6, a7, a8, a9, a10, a11) := hF
  refine pn_length (p := 5) (v := 0) (pn_W3 hM hF3) (by decide) (fun md hP => hP 5 (by decide)) (fun u hG => ?_)
  obtain ⟨w, h, a1, a2, a3, a4, a5, a6, a7, a8, a9, a10, a11⟩ := u
  refine br_t rfl ?_
  refine pn_item (p := 5) (i := 0) (v := 0) (pn_W_G hG) (by decide) (by omega) (fun md hP => hP 5 (by decide)) (fun z => absurd z (by omega)) (fun _ u hG => ?_)
  obtain ⟨w, h, a1, a2, a3, a4, a5, a6, a7, a8, a9, a10, a11⟩ := u
  refine br_t rfl ?_
  refine pn_sum (p := 5) (v := 0) (pn_W_G hG) (by decide) (fun md hP => hP 5 (by decide)) (fun u hG => ?_)
  obtain ⟨w, h, a1, a2, a3, a4, a5, a6, a7, a8, a9, a10, a11⟩ := u
  refine br_t rfl ?_
  refine pn_length (p := 4) (v := 0) (pn_W_G hG) (by decide) (fun md hP => hP 4 (by decide)) (fun u hG => ?_)
  obtain ⟨w, h, a1, a2, a3, a4, a5, a6, a7, a8, a9, a10, a11⟩ := u
  refine br_t rfl ?_
  refine pn_length (p := 2) (v := 11) (pn_W_G hG) (by decide) (fun md hP => hP 2 (by decide)) (fun u hG => ?_)
  obtain ⟨w, h, a1, a2, a3, a4, a5, a6, a7, a8, a9, a10, a11⟩ := u
  refine br_t rfl ?_
  refine pn_same_0 (p := 4) (r := 5) (pn_W_G hG) (by decide) (by decide) (fun md hP => hP 4 (by decide)) (fun md hP => hP 5 (by decide)) (fun u hG => ?_)
  obtain ⟨w, h, a1, a2, a3, a4, a5, a6, a7, a8, a9, a10, a11⟩ := u
  refine br_t rfl ?_
  refine pn_set (p := 3) (k := 6) (c := 8) (pn_G_V hG) (by decide) (by decide) (by decide) rfl rfl rfl rfl (fun u hF => ?_)
  obtain ⟨w, h, a1, a2, a3, a4, a5, a6, a7, a8, a9, a10, a11⟩ := u
  have hF3 : pn_F3 A B (w, h, a1, a2, a3, a4, a5, a6, a7, a8, a9, a10, a11) := hF
  refine pn_length (p := 3) (v := M) (pn_W3 hM hF3) (by decide) (fun md hP => hP 3 (by decide)) (fun u hG => ?_)
  obtain ⟨w, h, a1, a2, a3, a4, a5, a6, a7, a8, a9, a10, a11⟩ := u
  refine pk_lt M 5 (fun z => absurd z (by omega)) (fun _ => pk_lt 40 M (fun z => absurd z (by omega)) (fun _ => ?_))
  refine pn_exchange (p := 0) (r := 1) (pn_G_V hG) (by decide) (by decide) rfl rfl rfl rfl (fun u hF => ?_)
  obtain ⟨w, h, a1, a2, a3, a4, a5, a6, a7, a8, a9, a10, a11⟩ := u
  have hF4 : pn_F pn_ks4 pn_xs3 pn_ys (pn_ns4 A B) (w, h, a1, a2, a3, a4, a5, a6, a7, a8, a9, a10, a11) := hF
  refine br_t rfl ?_
  refine pn_item (p := 0) (i := 4) (v := 5) (pn_W4 hF4) (by decide) (by omega) (fun md hP => hP.1) (fun _ u hG => ?_) (fun z => absurd z (by omega))
  obtain ⟨w, h, a1, a2, a3, a4, a5, a6, a7, a8, a9, a10, a11⟩ := u
  refine br_t pn_lb4 ?_
  refine pn_item (p := 1) (v := 40) (pn_W_G hG) (by decide) (by omega) (fun md hP => hP.2.1) (fun _ u hG => ?_) (fun z => absurd z (by omega))
  obtain ⟨w, h, a1, a2, a3, a4, a5, a6, a7, a8, a9, a10, a11⟩ := u
  refine br_t rfl ?_
  refine pn_length (p := 2) (v := 10) (pn_W_G hG) (by decide) (fun md hP => hP.2.2) (fun u hG => ?_)
  obtain ⟨w, h, a1, a2, a3, a4, a5, a6, a7, a8, a9, a10, a11⟩ := u
  refine br_t rfl ?_
  refine pn_same_no (p := 0) (r := 1) (v := 5) (v' := 40) (pn_W_G hG) (by decide) (by decide) (fun md hP => hP.1) (fun md hP => hP.2.1) (by decide) (fun u hG => ?_)
  obtain ⟨w, h, a1, a2, a3, a4, a5, a6, a7, a8, a9, a10, a11⟩ := u
  refine br_t rfl ?_
  refine pn_fire (p := 3) hG pn_S4 (by decide) (fun u hV => ?_)
  obtain ⟨w, h, a1, a2, a3, a4, a5, a6, a7, a8, a9, a10, a11⟩ := u
  refine br_t rfl ?_
  refine pn_exchange (p := 0) (r := 1) hV (by decide) (by decide) rfl rfl rfl rfl (fun u hF => ?_)
  obtain ⟨w, h, a1, a2, a3, a4, a5, a6, a7, a8, a9, a10, a11⟩ := u
  have hF3 : pn_F3 A B (w, h, a1, a2, a3, a4, a5, a6, a7, a8, a9, a10, a11) := hF
  refine br_t rfl ?_
  refine pn_length (p := 3) (v := M) (pn_W3 hM hF3) (by decide) (fun md hP => hP 3 (by decide)) (fun u hG => ?_)
  obtain ⟨w, h, a1, a2, a3, a4, a5, a6, a7, a8, a9, a10, a11⟩ := u
  refine br_t rfl ?_
  refine pn_length (p := 2) (v := 11) (pn_W_G hG) (by decide) (fun md hP => hP 2 (by decide)) (fun u hG => ?_)
  obtain ⟨w, h, a1, a2, a3, a4, a5, a6, a7, a8, a9, a10, a11⟩ := u
  refine br_t rfl ?_
  have hlast : ∀ u, pn_G3 A B M u → wpX_find (fun r_1823 u => match u with | (_, _, _, _, _, _, _, _, _, _, _, _, _) => (((r_1823 = 40 → (post 0 ())) ∧ (¬ r_1823 = 40 → (post 1 ()))))) u 1 (pn_z B + 1) := by
    intro u hG
    refine pn_find (p := 1) (v := 5) (pn_W_G hG) (by decide) (fun md hP => hP 1 (by decide)) (fun j hj _ _ u _ => ?_) (fun _ u _ => ?_)
    · obtain ⟨w, h, a1, a2, a3, a4, a5, a6, a7, a8, a9, a10, a11⟩ := u
      exact pk_eq j 40 (fun z => absurd z (by omega)) (fun _ => hp)
    · obtain ⟨w, h, a1, a2, a3, a4, a5, a6, a7, a8, a9, a10, a11⟩ := u
      exact br_f (by decide) hp
  refine pn_find (p := 0) (v := 40) (pn_W_G hG) (by decide) (fun md hP => hP 0 (by decide)) (fun j hj hje _ u hG => ?_) (fun hno u hG => absurd rfl (hno i hi))
  have hji : j = i := pn_ca_inj hA hA' (by omega) (by omega) hje
  subst hji
  obtain ⟨w, h, a1, a2, a3, a4, a5, a6, a7, a8, a9, a10, a11⟩ := u
  exact br_t rfl (hlast _ hG)
theorem pn_L289 (hp : post 1 ()) (hA : -500 ≤ A) (hA' : A ≤ 499) (hi : i < 40) {x7 z0 z1 : Int32} (hz : z1 = z0) (h7 : x7 = pn_ms (pn_ca A) (pn_ca B) 0) (hG : pn_G1 A B (w, h, a1, a2, a3, a4, a5, a6, a7, a8, a9, a10, a11)) :
    wL_lawOf_289 post mc ms x2 (pn_z A) (pn_z B) (nI i) x7 z0 z1 kc ks w h a1 a2 a3 a4 a5 a6 a7 a8 a9 a10 a11 := by
  unfold wL_lawOf_289
  refine br_t hz ?_
  refine pn_find (p := 3) (v := 40) (pn_W_G hG) (by decide) (fun md hP => hP 3 (by decide)) (fun j hj hje hno u hG => ?_) (fun hno u hG => absurd h7.symm (hno 0 (by omega)))
  have hj0 : j = 0 := by
    rcases Nat.eq_zero_or_pos j with z | z
    · exact z
    · exact absurd h7.symm (hno 0 z)
  subst hj0
  obtain ⟨w, h, a1, a2, a3, a4, a5, a6, a7, a8, a9, a10, a11⟩ := u
  refine br_t rfl ?_
  refine pn_sum (p := 0) (v := 40) (pn_W_G hG) (by decide) (fun md hP => hP 0 (by decide)) (fun u hG => ?_)
  obtain ⟨w, h, a1, a2, a3, a4, a5, a6, a7, a8, a9, a10, a11⟩ := u
  refine br_t pn_sum40 ?_
  refine pn_set (p := 5) (k := 5) (c := 5) (pn_G_V hG) (by decide) (by decide) (by decide) rfl rfl rfl rfl (fun u hF => ?_)
  obtain ⟨w, h, a1, a2, a3, a4, a5, a6, a7, a8, a9, a10, a11⟩ := u
  refine pn_set (p := 6) (k := 5) (c := 7) (pn_F_V hF) (by decide) (by decide) (by decide) rfl rfl rfl rfl (fun u hF => ?_)
  obtain ⟨w, h, a1, a2, a3, a4, a5, a6, a7, a8, a9, a10, a11⟩ := u
  refine pn_set (p := 7) (k := 2) (c := 6) (pn_F_V hF) (by decide) (by decide) (by decide) rfl rfl rfl rfl (fun u hF => ?_)
  obtain ⟨w, h, a1, a2, a3, a4, a5, a6, a7, a8, a9, a10, a11⟩ := u
  have hF2 : pn_F pn_ks2 pn_xs2 pn_ys (pn_ns2 A B) (w, h, a1, a2, a3, a4, a5, a6, a7, a8, a9, a10, a11) := hF
  have hW : pn_W (pn_G2 A B) (w, h, a1, a2, a3, a4, a5, a6, a7, a8, a9, a10, a11) := pn_W_F hF2 pn_S2 pn_Q2_0 pn_P2
  refine pn_length (p := 5) (v := 40) hW (by decide) (fun md hP => hP 5 (by decide)) (fun u hG => ?_)
  obtain ⟨w, h, a1, a2, a3, a4, a5, a6, a7, a8, a9, a10, a11⟩ := u
  refine br_t rfl ?_
  refine pn_item (p := 5) (v := 40) (pn_W_G hG) (by decide) (by omega) (fun md hP => hP 5 (by decide)) (fun _ u hG => ?_) (fun z => absurd z (by omega))
  obtain ⟨w, h, a1, a2, a3, a4, a5, a6, a7, a8, a9, a10, a11⟩ := u
  refine br_t rfl ?_
  refine pn_length (p := 7) (v := 40) (pn_W_G hG) (by decide) (fun md hP => hP 7 (by decide)) (fun u hG => ?_)
  obtain ⟨w, h, a1, a2, a3, a4, a5, a6, a7, a8, a9, a10, a11⟩ := u
  refine br_t rfl ?_
  refine pn_item (p := 6) (v := 40) (pn_W_G hG) (by decide) (by omega) (fun md hP => hP 6 (by decide)) (fun _ u hG => ?_) (fun z => absurd z (by omega))
  obtain ⟨w, h, a1, a2, a3, a4, a5, a6, a7, a8, a9, a10, a11⟩ := u
  refine pk_eq i 0 (fun z => ?_) (fun z => ?_)
  · subst z
    exact pn_L415 hp hA hA' hi rfl hG
  · obtain ⟨k, rfl⟩ : ∃ k, i = k + 1 := ⟨i - 1, by omega⟩
    rw [nI_pred]
    refine pn_item (p := 7) (i := k) (v := 40) (pn_W_G hG) (by decide) (by omega) (fun md hP => hP 7 (by decide)) (fun _ u hG => ?_) (fun z => absurd z (by omega))
    obtain ⟨w, h, a1, a2, a3, a4, a5, a6, a7, a8, a9, a10, a11⟩ := u
    exact pn_L415 hp hA hA' hi rfl hG
theorem pn_L249 (hp : post 1 ()) (hA : -500 ≤ A) (hA' : A ≤ 499) (hi : i < 40) {x7 x9 z0 : Int32} (h7 : x7 = pn_ms (pn_ca A) (pn_ca B) 0) (h9 : x9 = pn_ms (pn_ca A) (pn_ca B) i) (h0 : pn_os A i = z0 + 2 * nI i)
    (hG : pn_G1 A B (w, h, a1, a2, a3, a4, a5, a6, a7, a8, a9, a10, a11)) :
    wL_lawOf_249 post mc ms x2 (pn_z A) (pn_z B) (nI i) x7 x9 z0 kc ks w h a1 a2 a3 a4 a5 a6 a7 a8 a9 a10 a11 := by
  unfold wL_lawOf_249
  refine pn_item (p := 3) (v := 40) (pn_W_G hG) (by decide) (by omega) (fun md hP => hP 3 (by decide)) (fun _ u hG => ?_) (fun z => absurd z (by omega))
  obtain ⟨w, h, a1, a2, a3, a4, a5, a6, a7, a8, a9, a10, a11⟩ := u
  refine br_t h9.symm ?_
  refine pn_item (p := 4) (v := 20) (pn_W_G hG) (by decide) (by omega) (fun md hP => hP 4 (by decide)) (fun hlt u hG => ?_) (fun hge u hG => ?_)
  · obtain ⟨w, h, a1, a2, a3, a4, a5, a6, a7, a8, a9, a10, a11⟩ := u
    exact pk_le 20 i (fun z => absurd z (by omega)) (fun _ => pn_L289 hp hA hA' hi h0 h7 hG)
  · obtain ⟨w, h, a1, a2, a3, a4, a5, a6, a7, a8, a9, a10, a11⟩ := u
    exact pk_le 20 i (fun _ => pn_L289 hp hA hA' hi rfl h7 hG) (fun z => absurd z (by omega))
theorem pn_L230 (hp : post 1 ()) (hA : -500 ≤ A) (hA' : A ≤ 499) (hi : i < 40) {x7 x9 : Int32} (h7 : x7 = pn_ms (pn_ca A) (pn_ca B) 0) (h9 : x9 = pn_ms (pn_ca A) (pn_ca B) i)
    (hG : pn_G1 A B (w, h, a1, a2, a3, a4, a5, a6, a7, a8, a9, a10, a11)) :
    wL_lawOf_230 post mc ms x2 (pn_z A) (pn_z B) (nI i) x7 x9 kc ks w h a1 a2 a3 a4 a5 a6 a7 a8 a9 a10 a11 := by
  unfold wL_lawOf_230
  exact br_c (fun ho => pn_L249 hp hA hA' hi h7 h9 (pn_first1 ho) hG) (fun ho => pn_L249 hp hA hA' hi h7 h9 (pn_first2 ho) hG)
theorem pn_L116 (hp : post 1 ()) (hA : -500 ≤ A) (hA' : A ≤ 499) (hB : -500 ≤ B) (hB' : B ≤ 499) (hi : i < 40) {z0 z1 : Int32} (hz : z1 = z0 + nI i / 2)
    (hG : pn_G1 A B (w, h, a1, a2, a3, a4, a5, a6, a7, a8, a9, a10, a11)) :
    wL_lawOf_116 post mc ms x2 (pn_z A) (pn_z B) (nI i) z0 z1 kc ks w h a1 a2 a3 a4 a5 a6 a7 a8 a9 a10 a11 := by
  unfold wL_lawOf_116
  refine And.intro (by decide) (br_t hz ?_)
  refine pn_length (p := 2) (v := 40) (pn_W_G hG) (by decide) (fun md hP => hP 2 (by decide)) (fun u hG => ?_)
  obtain ⟨w, h, a1, a2, a3, a4, a5, a6, a7, a8, a9, a10, a11⟩ := u
  refine br_t rfl ?_
  refine pn_length (p := 3) (v := 40) (pn_W_G hG) (by decide) (fun md hP => hP 3 (by decide)) (fun u hG => ?_)
  obtain ⟨w, h, a1, a2, a3, a4, a5, a6, a7, a8, a9, a10, a11⟩ := u
  refine br_t rfl ?_
  refine pn_length (p := 4) (v := 20) (pn_W_G hG) (by decide) (fun md hP => hP 4 (by decide)) (fun u hG => ?_)
  obtain ⟨w, h, a1, a2, a3, a4, a5, a6, a7, a8, a9, a10, a11⟩ := u
  refine br_t rfl ?_
  refine pn_full (v := 4) (pn_W_G hG) (fun md hP => ?_) (fun u hG => ?_)
  · unfold pn_P at hP
    simp [pn_cnt, hP]
  obtain ⟨w, h, a1, a2, a3, a4, a5, a6, a7, a8, a9, a10, a11⟩ := u
  refine br_t rfl ?_
  have hle : pn_z B ≤ pn_z A ↔ B ≤ A := pn_z_le (by omega) (by omega) (by omega) (by omega)
  refine br_c (fun hba => ?_) (fun hba => ?_)
  · have hBA := hle.mp hba
    unfold wL_lawOf_178
    refine br_t hba ?_
    unfold wL_lawOf_200
    refine br_c (fun hg => And.intro (by decide) ?_) (fun hg => ?_)
    · rw [pn_z_sub, pn_z_n, pn_z_le (by omega) (by omega) (by omega) (by omega)] at hg
      exact pn_L230 hp hA hA' hi (pn_low1 hA hA' hB hB' hBA) (pn_due1 hA hA' hB hB' hi hBA hg) hG
    · rw [pn_z_sub, pn_z_n, pn_z_le (by omega) (by omega) (by omega) (by omega)] at hg
      exact pn_L230 hp hA hA' hi (pn_low1 hA hA' hB hB' hBA) (pn_due3 hA hA' hB hB' hi hBA (by omega)) hG
  · have hAB : A ≤ B := by
      have hn : ¬ B ≤ A := fun z => hba (hle.mpr z)
      omega
    unfold wL_lawOf_178
    refine br_f hba ?_
    unfold wL_lawOf_200
    refine br_c (fun hg => And.intro (by decide) ?_) (fun hg => ?_)
    · rw [pn_z_sub, pn_z_n, pn_z_le (by omega) (by omega) (by omega) (by omega)] at hg
      exact pn_L230 hp hA hA' hi (pn_low2 hA hA' hB hB' hAB) (pn_due2 hA hA' hB hB' hi hAB hg) hG
    · rw [pn_z_sub, pn_z_n, pn_z_le (by omega) (by omega) (by omega) (by omega)] at hg
      exact pn_L230 hp hA hA' hi (pn_low2 hA hA' hB hB' hAB) (pn_due4 hA hA' hB hB' hi hAB (by omega)) hG
theorem pn_lawOf (hp : post 1 ()) (p0 p1 p2 : Int32) : wpL_lawOf post 12 413 () p0 p1 p2 := by
  obtain ⟨A, hA, hA', eA⟩ := pn_arg p0
  obtain ⟨B, hB, hB', eB⟩ := pn_arg p1
  obtain ⟨i, hi, ei⟩ := pn_idx p2
  unfold wpL_lawOf
  refine ⟨by decide, by decide, 11, 400, by decide, by decide, pn_init (by decide) (by decide) (fun u hF => ?_)⟩
  obtain ⟨w, h, a1, a2, a3, a4, a5, a6, a7, a8, a9, a10, a11⟩ := u
  refine And.intro (by decide) (nm_r eA (And.intro (by decide) (nm_r eB (And.intro (by decide) (nm_r ei ?_)))))
  refine pn_set (p := 0) (k := 0) (c := 0) (pn_F_V hF) (by decide) (by decide) (by decide) rfl rfl rfl rfl (fun u hF => ?_)
  obtain ⟨w, h, a1, a2, a3, a4, a5, a6, a7, a8, a9, a10, a11⟩ := u
  refine pn_set (p := 1) (k := 0) (c := 0) (pn_F_V hF) (by decide) (by decide) (by decide) rfl rfl rfl rfl (fun u hF => ?_)
  obtain ⟨w, h, a1, a2, a3, a4, a5, a6, a7, a8, a9, a10, a11⟩ := u
  refine pn_set (p := 2) (k := 3) (c := 8) (pn_F_V hF) (by decide) (by decide) (by decide) rfl rfl rfl rfl (fun u hF => ?_)
  obtain ⟨w, h, a1, a2, a3, a4, a5, a6, a7, a8, a9, a10, a11⟩ := u
  refine pn_set (p := 3) (k := 6) (c := 8) (pn_F_V hF) (by decide) (by decide) (by decide) rfl rfl rfl rfl (fun u hF => ?_)
  obtain ⟨w, h, a1, a2, a3, a4, a5, a6, a7, a8, a9, a10, a11⟩ := u
  refine pn_set (p := 4) (k := 4) (c := 0) (pn_F_V hF) (by decide) (by decide) (by decide) rfl rfl rfl rfl (fun u hF => ?_)
  obtain ⟨w, h, a1, a2, a3, a4, a5, a6, a7, a8, a9, a10, a11⟩ := u
  have hF1 : pn_F pn_ks1 pn_xs1 pn_ys (pn_ns1 A B) (w, h, a1, a2, a3, a4, a5, a6, a7, a8, a9, a10, a11) := hF
  have hW : pn_W (pn_G1 A B) (w, h, a1, a2, a3, a4, a5, a6, a7, a8, a9, a10, a11) := pn_W_F hF1 pn_S1 pn_Q1_0 pn_P1
  refine pn_item (p := 2) (v := 40) hW (by decide) (by omega) (fun md hP => hP 2 (by decide)) (fun _ u hG => ?_) (fun z => absurd z (by omega))
  obtain ⟨w, h, a1, a2, a3, a4, a5, a6, a7, a8, a9, a10, a11⟩ := u
  have er : nI i - nI i / 2 * 2 = nI (i % 2) := pk_rem (d := 2) (by omega) (by decide) (by decide)
  have ed : nI i / 2 = nI (i / 2) := pk_div (d := 2) (by omega) (by decide) (by decide)
  refine And.intro (by decide) (pk_eq (i % 2) 0 (fun z => ?_) (fun z => ?_) er)
  · refine pn_L116 hp hA hA' hB hB' hi ?_ hG
    rw [ed]
    show (if i % 2 = 0 then pn_ca A (i / 2) else pn_ca B (i / 2)) = _
    rw [if_pos z]
    rfl
  · refine pn_L116 hp hA hA' hB hB' hi ?_ hG
    rw [ed]
    show (if i % 2 = 0 then pn_ca A (i / 2) else pn_ca B (i / 2)) = _
    rw [if_neg z]
    rfl
theorem pn_cell {po : Int32 → Prop} {L k : Nat} {xs : Nat → Int32} (hL : L ≤ 3) (hk : k < 3) (H : ∀ r, po r) : wpL_cellAt po L xs () (nI k) := by
  unfold wpL_cellAt
  exact pk_le L k (fun _ => H 0) (fun z => And.intro (vp_in_nI z (by omega)) (H _))
theorem i_vc (xs : Nat → Int32) (L : Nat) (hL : L ≤ 3) : wpL_law (fun r => r = 1) L xs := by
  unfold wpL_law
  refine pn_cell (k := 0) hL (by omega) (fun r1 => ?_)
  refine pn_cell (k := 1) hL (by omega) (fun r2 => ?_)
  refine pn_cell (k := 2) hL (by omega) (fun r3 => ?_)
  exact ⟨12, 413, by decide, by decide, pn_lawOf (post := fun r _ => r = 1) rfl r1 r2 r3⟩
end
