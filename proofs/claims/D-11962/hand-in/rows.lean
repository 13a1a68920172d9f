section
/-! the pure picture: points as a natural of 18 bits (three bits a point), a graph as a list of pairs -/
theorem gp_sl : ∀ n, n < 32 → ((nI n &&& 31).toBitVec.smod 32).toNat = n := by decide +kernel
theorem gp_or (a b : Nat) : nI a ||| nI b = nI (a ||| b) := by
  apply Int32.toBitVec_inj.1
  show BitVec.ofNat 32 a ||| BitVec.ofNat 32 b = BitVec.ofNat 32 (a ||| b)
  apply BitVec.eq_of_getLsbD_eq
  intro i hi
  simp [hi]
theorem gp_b8 : ∀ n, n < 128 → (nI n).toInt8.toInt32 = nI n := by decide +kernel
theorem gp_s16 : ∀ n, n < 256 → (nI n).toInt16.toInt32 = nI n := by decide +kernel
theorem gp_nar {n : Nat} (h : n < 128) : vp_nar .byte (nI n) = nI n := by
  rw [vp_nar_byte]
  exact gp_b8 n h
theorem gp_full : ∀ m, m < 9 → ((1 : Int32) <<< (nI m &&& 31)) - 1 = nI (2 ^ m - 1) := by decide +kernel
theorem gp_clear : ∀ e, e < 8 → ∀ m, m < 256 → m / 2 ^ e % 2 = 1 → nI m &&& (((1 : Int32) <<< (nI e &&& 31)) ^^^ (-1)) = nI (m - 2 ^ e) := by decide +kernel
/-- what has become of point p -/
def gp_pt (P p : Nat) : Nat := P / 2 ^ (3 * p) % 8
theorem gp_pt_lt (P p : Nat) : gp_pt P p < 8 := Nat.mod_lt _ (by decide)
theorem gp_bitI {m e : Nat} (hm : m < 2 ^ 31) (he : e < 32) : (nI m >>> (nI e &&& 31)) &&& 1 = nI (m / 2 ^ e % 2) := by
  rw [pk_shrN hm _ e (gp_sl e he)]
  exact pk_andN (n := m / 2 ^ e) (Nat.lt_of_le_of_lt (Nat.div_le_self _ _) (by omega)) 1 (by decide)
theorem gp_m3 (p : Nat) : (3 : Int32) * nI p = nI (3 * p) := pk_mul 3 p
theorem gp_ptI {P p : Nat} (hP : P < 2 ^ 31) (hp : p < 8) : (nI P >>> ((3 * nI p) &&& 31)) &&& 7 = nI (gp_pt P p) := by
  rw [gp_m3, pk_shrN hP _ (3 * p) (gp_sl (3 * p) (by omega))]
  exact pk_andN (n := P / 2 ^ (3 * p)) (Nat.lt_of_le_of_lt (Nat.div_le_self _ _) (by omega)) 3 (by decide)
theorem gp_shlI {c p : Nat} (hc : c < 8) (hp : p < 6) : nI c <<< ((3 * nI p) &&& 31) = nI (c * 2 ^ (3 * p)) := by
  rw [gp_m3]
  refine pk_shlN _ (3 * p) (gp_sl (3 * p) (by omega)) ?_
  have h1 : 2 ^ (3 * p) ≤ 2 ^ 15 := Nat.pow_le_pow_right (by decide) (by omega)
  calc c * 2 ^ (3 * p) ≤ 8 * 2 ^ 15 := Nat.mul_le_mul (by omega) h1
    _ < 2 ^ 32 := by decide
theorem gp_c_lt {c p : Nat} (hc : c < 8) : c * 2 ^ (3 * p) < 2 ^ (3 * (p + 1)) := by
  have : 2 ^ (3 * (p + 1)) = 8 * 2 ^ (3 * p) := by
    rw [show 3 * (p + 1) = 3 + 3 * p by omega, Nat.pow_add]
  rw [this]
  exact Nat.mul_lt_mul_of_pos_right hc (Nat.two_pow_pos _)
theorem gp_or_lt {a b p : Nat} (ha : a < 2 ^ (3 * p)) (hb : b < 2 ^ (3 * (p + 1))) : a ||| b < 2 ^ (3 * (p + 1)) :=
  Nat.or_lt_two_pow (Nat.lt_of_lt_of_le ha (Nat.pow_le_pow_right (by decide) (by omega))) hb
/-- startPoints -/
def gp_sp : Nat → Nat
  | 0 => 0
  | p + 1 => gp_sp p ||| (p * 2 ^ (3 * p))
/-- joined: what has become hi becomes lo -/
def gp_jl (P lo hi : Nat) : Nat → Nat
  | 0 => 0
  | p + 1 => gp_jl P lo hi p ||| ((if gp_pt P p = hi then lo else gp_pt P p) * 2 ^ (3 * p))
theorem gp_jl_lt {P lo hi : Nat} (hl : lo < 8) : ∀ p, gp_jl P lo hi p < 2 ^ (3 * p) := by
  intro p
  induction p with
  | zero => exact Nat.one_pos
  | succ p ih =>
    refine gp_or_lt ih (gp_c_lt ?_)
    by_cases h : gp_pt P p = hi
    · rw [if_pos h]; exact hl
    · rw [if_neg h]; exact gp_pt_lt P p
def gp_js (P a b : Nat) : Nat := if b ≤ a then gp_jl P b a 6 else gp_jl P a b 6
theorem gp_js_lt {P a b : Nat} (ha : a < 8) (hb : b < 8) : gp_js P a b < 2 ^ 18 := by
  unfold gp_js
  by_cases h : b ≤ a
  · rw [if_pos h]; exact gp_jl_lt hb 6
  · rw [if_neg h]; exact gp_jl_lt ha 6
theorem gp_js_comm (P a b : Nat) : gp_js P a b = gp_js P b a := by
  unfold gp_js
  by_cases h : b ≤ a
  · by_cases h' : a ≤ b
    · have : a = b := by omega
      rw [this]
    · rw [if_pos h, if_neg h']
  · rw [if_neg h, if_pos (by omega : a ≤ b)]
/-- one edge drawn together -/
def gp_dj (P u v : Nat) : Nat := if gp_pt P u = gp_pt P v then P else gp_js P (gp_pt P u) (gp_pt P v)
theorem gp_dj_comm (P u v : Nat) : gp_dj P u v = gp_dj P v u := by
  unfold gp_dj
  by_cases h : gp_pt P u = gp_pt P v
  · rw [if_pos h, if_pos h.symm]
  · rw [if_neg h, if_neg (fun z => h z.symm), gp_js_comm]
theorem gp_dj_lt {P u v : Nat} (h : P < 2 ^ 18) : gp_dj P u v < 2 ^ 18 := by
  unfold gp_dj
  by_cases e : gp_pt P u = gp_pt P v
  · rw [if_pos e]; exact h
  · rw [if_neg e]; exact gp_js_lt (gp_pt_lt _ _) (gp_pt_lt _ _)
/-- the ends of edge e -/
def gp_at (E : List (Nat × Nat)) (e : Nat) : Nat × Nat := (E[e]?).getD (0, 0)
/-- drawnTogether: the edges of the mask m among the first k -/
def gp_dt (E : List (Nat × Nat)) (m P : Nat) : Nat → Nat
  | 0 => P
  | e + 1 => if m / 2 ^ e % 2 = 0 then gp_dt E m P e else gp_dj (gp_dt E m P e) (gp_at E e).1 (gp_at E e).2
theorem gp_dt_lt {E : List (Nat × Nat)} {m P : Nat} (h : P < 2 ^ 18) : ∀ k, gp_dt E m P k < 2 ^ 18 := by
  intro k
  induction k with
  | zero => exact h
  | succ k ih =>
    unfold gp_dt
    by_cases e : m / 2 ^ k % 2 = 0
    · rw [if_pos e]; exact ih
    · rw [if_neg e]; exact gp_dj_lt ih
/-- the first edge that is left -/
def gp_fb (m : Nat) : Nat → Nat → Nat
  | 0, e => e
  | k + 1, e => if m / 2 ^ e % 2 = 0 then gp_fb m k (e + 1) else e
/-- workOff at a mask that isn't empty, its first edge e = (u, v): what it leaves on the stack, the last pushed first -/
def gp_wk (E : List (Nat × Nat)) (m P x y e u v : Nat) : List (Nat × Nat × Nat × Nat) :=
  if gp_pt P u = gp_pt P v then [(m - 2 ^ e, P, x, y + 1)]
  else if gp_pt (gp_dt E (m - 2 ^ e) P E.length) u = gp_pt (gp_dt E (m - 2 ^ e) P E.length) v then [(m - 2 ^ e, gp_js P (gp_pt P u) (gp_pt P v), x, y), (m - 2 ^ e, P, x, y)]
  else [(m - 2 ^ e, gp_js P (gp_pt P u) (gp_pt P v), x + 1, y)]
theorem gp_wk_comm (E : List (Nat × Nat)) (m P x y e u v : Nat) : gp_wk E m P x y e u v = gp_wk E m P x y e v u := by
  unfold gp_wk
  by_cases h : gp_pt P u = gp_pt P v
  · rw [if_pos h, if_pos h.symm]
  · have h' : ¬ gp_pt P v = gp_pt P u := fun z => h z.symm
    rw [if_neg h, if_neg h', gp_js_comm P (gp_pt P u)]
    by_cases h2 : gp_pt (gp_dt E (m - 2 ^ e) P E.length) u = gp_pt (gp_dt E (m - 2 ^ e) P E.length) v
    · rw [if_pos h2, if_pos h2.symm]
    · have h2' : ¬ gp_pt (gp_dt E (m - 2 ^ e) P E.length) v = gp_pt (gp_dt E (m - 2 ^ e) P E.length) u := fun z => h2 z.symm
      rw [if_neg h2, if_neg h2']
/-- what a turn of the work asks for: checked turn by turn -/
abbrev gp_chk (E : List (Nat × Nat)) (m P x y s : Nat) : Prop := s < 11 ∧ m < 256 ∧ P < 2 ^ 18 ∧ x < 9 ∧ y < 9 ∧ (m = 0 ∨ (gp_fb m 8 0 < E.length ∧ m / 2 ^ gp_fb m 8 0 % 2 = 1 ∧ ∀ i, i < gp_fb m 8 0 → m / 2 ^ i % 2 = 0))
def gp_run (E : List (Nat × Nat)) : Nat → List (Nat × Nat × Nat × Nat) → List Nat → Option (List Nat)
  | 0, _, _ => none
  | _ + 1, [], L => some L
  | k + 1, (m, P, x, y) :: S, L =>
    if gp_chk E m P x y S.length then
      (if m = 0 then gp_run E k S ((9 * x + y) :: L)
       else gp_run E k (gp_wk E m P x y (gp_fb m 8 0) (gp_at E (gp_fb m 8 0)).1 (gp_at E (gp_fb m 8 0)).2 ++ S) L)
    else none
/-- the polynomial: the list of its terms, 9 i + j for x^i y^j -/
def gp_poly (E : List (Nat × Nat)) : Option (List Nat) := gp_run E 100 [(2 ^ E.length - 1, 181896, 0, 0)] []
/-- the value at (x, y) -/
def gp_pw (w y : Int32) : Nat → Int32
  | 0 => w
  | j + 1 => gp_pw w y j * y
def gp_sm (T : Nat → Int32) (y : Int32) (i : Nat) (s w : Int32) : Nat → Int32
  | 0 => s
  | j + 1 => gp_sm T y i s w j + T (9 * i + j) * gp_pw w y j
def gp_sv (T : Nat → Int32) (x y : Int32) : Nat → Int32
  | 0 => 0
  | i + 1 => gp_sm T y i (gp_sv T x y i) (gp_pw 1 x i) 9
def gp_val (L : List Nat) (x y : Int32) : Int32 := gp_sv (fun k => nI (L.count k)) x y 9
/-- parts -/
def gp_pc (P : Nat) : Nat → Nat
  | 0 => 0
  | p + 1 => if gp_pt P p = p then gp_pc P p + 1 else gp_pc P p
theorem gp_pc_le (P : Nat) : ∀ p, gp_pc P p ≤ p := by
  intro p
  induction p with
  | zero => exact Nat.le_refl 0
  | succ p ih =>
    unfold gp_pc
    by_cases h : gp_pt P p = p
    · rw [if_pos h]; omega
    · rw [if_neg h]; omega
def gp_parts (E : List (Nat × Nat)) : Nat := gp_pc (gp_dt E (2 ^ E.length - 1) 181896 E.length) 6
def gp_sg (x v : Int32) : Int32 := if x &&& 1 = 0 then v else -v
def gp_col (E : List (Nat × Nat)) (L : List Nat) (q : Int32) : Int32 := gp_sg (6 - nI (gp_parts E)) (gp_pw (gp_val L (1 - q) 0) q (gp_parts E))
def gp_flw (E : List (Nat × Nat)) (L : List Nat) (k : Int32) : Int32 := gp_sg ((nI E.length - 6) + nI (gp_parts E)) (gp_val L 0 (1 - k))
end
section
/-! the graph's arrays: each edge is held, turned or not -/
def gp_ed (E : List (Nat × Nat)) (a1 a2 : Nat → Int32) : Prop := ∀ e U V, E[e]? = some (U, V) → U < 6 ∧ V < 6 ∧ ((a1 e = nI U ∧ a2 e = nI V) ∨ (a1 e = nI V ∧ a2 e = nI U))
theorem gp_get {E : List (Nat × Nat)} {a1 a2 : Nat → Int32} (h : gp_ed E a1 a2) {e : Nat} (he : e < E.length) :
    ∃ u v, u < 6 ∧ v < 6 ∧ a1 e = nI u ∧ a2 e = nI v ∧ (gp_at E e = (u, v) ∨ gp_at E e = (v, u)) := by
  have g : E[e]? = some E[e] := List.getElem?_eq_getElem he
  have ga : gp_at E e = E[e] := by unfold gp_at; rw [g]; rfl
  obtain ⟨h1, h2, h3⟩ := h e E[e].1 E[e].2 g
  rcases h3 with ⟨p, q⟩ | ⟨p, q⟩
  · exact ⟨E[e].1, E[e].2, h1, h2, p, q, Or.inl ga⟩
  · exact ⟨E[e].2, E[e].1, h2, h1, p, q, Or.inr ga⟩
section
variable {ec rd wt : Int32} {a1 a2 a3 a4 a5 a6 a7 : Nat → Int32}
theorem gp_start {post : Int32 → Prop} (H : post (nI 181896)) : wpX_startPoints post (6, ec, rd, wt, a1, a2, a3, a4, a5, a6, a7) := by
  unfold wpX_startPoints
  exact pk_loop (σ := Unit) (fun n i _ => wX_startPoints_4 post 6 ec rd wt a1 a2 a3 a4 a5 a6 a7 n (nI (gp_sp i)) (nI i)) (fun _ _ => True) 6 0 () (by omega) trivial
    (fun n _ _ => pk_le 6 6 (fun _ => H) (fun z => absurd z (by omega)))
    (fun n i _ hi _ hw => pk_le 6 i (fun z => absurd z (by omega)) (fun _ => nm_r (by rw [gp_shlI (by omega) hi, gp_or]; rfl) (nm_r (nI_1 i) (hw () trivial))))
theorem gp_po {post : Int32 → Prop} {u : St2} {x y : Int32} (P p : Nat) (hx : x = nI P) (hy : y = nI p) (hP : P < 2 ^ 18) (hp : p < 6) (H : post (nI (gp_pt P p))) : wpX_pointOf post u x y := by
  obtain ⟨f1, f2, f3, f4, b1, b2, b3, b4, b5, b6, b7⟩ := u
  subst hx hy
  unfold wpX_pointOf
  rw [gp_ptI (by omega) (by omega)]
  exact H
theorem gp_j30 {post : Int32 → Prop} {P lo hi : Nat} (hP : P < 2 ^ 18) (hl : lo < 8) (hh : hi < 8) (H : post (nI (gp_jl P lo hi 6))) :
    ∃ n, wX_joined_30 post (nI P) (nI lo) (nI hi) 6 ec rd wt a1 a2 a3 a4 a5 a6 a7 n 0 0 :=
  pk_loop (σ := Unit) (fun n i _ => wX_joined_30 post (nI P) (nI lo) (nI hi) 6 ec rd wt a1 a2 a3 a4 a5 a6 a7 n (nI (gp_jl P lo hi i)) (nI i)) (fun _ _ => True) 6 0 () (by omega) trivial
    (fun n _ _ => pk_le 6 6 (fun _ => H) (fun z => absurd z (by omega)))
    (fun n i _ hi' _ hw => pk_le 6 i (fun z => absurd z (by omega)) (fun _ => nm_r (gp_ptI (by omega) (by omega)) (pk_eq (gp_pt P i) hi
      (fun z => nm_r (by rw [gp_shlI hl hi', gp_or]; show _ = nI (gp_jl P lo hi i ||| ((if gp_pt P i = hi then lo else gp_pt P i) * 2 ^ (3 * i))); rw [if_pos z]) (nm_r (nI_1 i) (hw () trivial)))
      (fun z => nm_r (by rw [gp_shlI (gp_pt_lt P i) hi', gp_or]; show _ = nI (gp_jl P lo hi i ||| ((if gp_pt P i = hi then lo else gp_pt P i) * 2 ^ (3 * i))); rw [if_neg z]) (nm_r (nI_1 i) (hw () trivial)))
      rfl rfl (Nat.lt_trans (gp_pt_lt P i) (by decide)))))
theorem gp_joined {post : Int32 → Prop} {P a b : Nat} (hP : P < 2 ^ 18) (ha : a < 8) (hb : b < 8) (H : post (nI (gp_js P a b))) :
    wpX_joined post (6, ec, rd, wt, a1, a2, a3, a4, a5, a6, a7) (nI P) (nI a) (nI b) := by
  unfold wpX_joined
  unfold gp_js at H
  refine pk_le b a (fun z => ?_) (fun z => ?_)
  · rw [if_pos z] at H
    exact pk_le b a (fun _ => gp_j30 hP hb ha H) (fun z' => absurd z' (by omega))
  · rw [if_neg (by omega)] at H
    exact pk_le b a (fun z' => absurd z' (by omega)) (fun _ => gp_j30 hP ha hb H)
theorem gp_drawn {post : Int32 → Prop} {E : List (Nat × Nat)} {m P : Nat} (hE : gp_ed E a1 a2) (h8 : E.length ≤ 8) (hm : m < 2 ^ 31) (hP : P < 2 ^ 18) (H : post (nI (gp_dt E m P E.length))) :
    wpX_drawnTogether post (6, nI E.length, rd, wt, a1, a2, a3, a4, a5, a6, a7) (nI m) (nI P) := by
  unfold wpX_drawnTogether
  refine pk_loop (σ := Unit) (fun n i _ => wX_drawnTogether_5 post (nI m) 6 (nI E.length) rd wt a1 a2 a3 a4 a5 a6 a7 n (nI (gp_dt E m P i)) (nI i)) (fun _ _ => True) E.length 0 () (by omega) trivial
    (fun n _ _ => pk_le E.length E.length (fun _ => H) (fun z => absurd z (by omega))) (fun n i _ hi _ hw => ?_)
  have hw' := hw () trivial
  have hQ : gp_dt E m P i < 2 ^ 18 := gp_dt_lt hP i
  obtain ⟨u, v, hu, hv, e1, e2, e3⟩ := gp_get hE hi
  refine pk_le E.length i (fun z => absurd z (by omega)) (fun _ => pk_eq (m / 2 ^ i % 2) 0 (fun z => ?_) (fun z => ?_) (gp_bitI hm (by omega)) rfl (by omega) (by omega))
  · have e : gp_dt E m P (i + 1) = gp_dt E m P i := by
      show (if m / 2 ^ i % 2 = 0 then gp_dt E m P i else _) = _
      rw [if_pos z]
    rw [e] at hw'
    exact nm_r (nI_1 i) hw'
  · have e : gp_dt E m P (i + 1) = gp_dj (gp_dt E m P i) u v := by
      show (if m / 2 ^ i % 2 = 0 then gp_dt E m P i else gp_dj (gp_dt E m P i) (gp_at E i).1 (gp_at E i).2) = _
      rw [if_neg z]
      rcases e3 with e3 | e3
      · rw [e3]
      · rw [e3]; exact gp_dj_comm _ _ _
    rw [e] at hw'
    unfold gp_dj at hw'
    rw [nI_clamp (show i < 2 ^ 31 by omega)]
    refine ⟨pk_in i 8 (by omega), gp_po (gp_dt E m P i) u rfl e1 hQ hu ⟨pk_in i 8 (by omega), gp_po (gp_dt E m P i) v rfl e2 hQ hv ?_⟩⟩
    refine pk_eq (gp_pt (gp_dt E m P i) u) (gp_pt (gp_dt E m P i) v) (fun z' => ?_) (fun z' => ?_) rfl rfl (Nat.lt_trans (gp_pt_lt _ _) (by decide)) (Nat.lt_trans (gp_pt_lt _ _) (by decide))
    · rw [if_pos z'] at hw'
      exact nm_r (nI_1 i) hw'
    · rw [if_neg z'] at hw'
      exact gp_joined hQ (gp_pt_lt _ _) (gp_pt_lt _ _) (nm_r (nI_1 i) hw')
theorem gp_partsW {post : Int32 → Prop} {E : List (Nat × Nat)} (hE : gp_ed E a1 a2) (h8 : E.length ≤ 8) (H : post (nI (gp_parts E))) :
    wpX_parts post (6, nI E.length, rd, wt, a1, a2, a3, a4, a5, a6, a7) := by
  unfold wpX_parts
  refine gp_start ?_
  rw [gp_full E.length (by omega)]
  have hm : 2 ^ E.length - 1 < 2 ^ 31 := by
    have : 2 ^ E.length ≤ 2 ^ 8 := Nat.pow_le_pow_right (by decide) h8
    omega
  have hQ : gp_dt E (2 ^ E.length - 1) 181896 E.length < 2 ^ 18 := gp_dt_lt (by decide) _
  refine gp_drawn hE h8 hm (by decide) ?_
  unfold gp_parts at H
  generalize gp_dt E (2 ^ E.length - 1) 181896 E.length = Q at H hQ
  refine pk_loop (σ := Unit) (fun n i _ => wX_parts_23 post (nI Q) 6 (nI E.length) rd wt a1 a2 a3 a4 a5 a6 a7 n (nI (gp_pc Q i)) (nI i)) (fun _ _ => True) 6 0 () (by omega) trivial
    (fun n _ _ => pk_le 6 6 (fun _ => H) (fun z => absurd z (by omega))) (fun n i _ hi _ hw => ?_)
  have hw' := hw () trivial
  refine pk_le 6 i (fun z => absurd z (by omega)) (fun _ => pk_eq (gp_pt Q i) i (fun z => ?_) (fun z => ?_) (gp_ptI (by omega) (by omega)) rfl (Nat.lt_trans (gp_pt_lt _ _) (by decide)) (by omega))
  · have e : gp_pc Q (i + 1) = gp_pc Q i + 1 := by
      show (if gp_pt Q i = i then _ else _) = _
      rw [if_pos z]
    rw [e] at hw'
    exact nm_r (nI_1 _) (nm_r (nI_1 i) hw')
  · have e : gp_pc Q (i + 1) = gp_pc Q i := by
      show (if gp_pt Q i = i then _ else _) = _
      rw [if_neg z]
    rw [e] at hw'
    exact nm_r (nI_1 i) hw'
end
end
section
/-! the stack, top first -/
def gp_st (a4 a5 a6 a7 : Nat → Int32) : List (Nat × Nat × Nat × Nat) → Prop
  | [] => True
  | s :: S => (a4 S.length = nI s.1 ∧ a5 S.length = nI s.2.1 ∧ a6 S.length = nI s.2.2.1 ∧ a7 S.length = nI s.2.2.2) ∧ gp_st a4 a5 a6 a7 S
theorem gp_st_up {a4 a5 a6 a7 : Nat → Int32} {k : Nat} {v4 v5 v6 v7 : Int32} : ∀ {S : List (Nat × Nat × Nat × Nat)}, gp_st a4 a5 a6 a7 S → S.length ≤ k → gp_st (upd a4 k v4) (upd a5 k v5) (upd a6 k v6) (upd a7 k v7) S
  | [], _, _ => trivial
  | s :: S, h, hk => by
    have hk' : S.length + 1 ≤ k := hk
    have hne : S.length ≠ k := by omega
    obtain ⟨⟨h4, h5, h6, h7⟩, hS⟩ := h
    exact ⟨⟨by rw [pk_un hne]; exact h4, by rw [pk_un hne]; exact h5, by rw [pk_un hne]; exact h6, by rw [pk_un hne]; exact h7⟩, gp_st_up hS (by omega)⟩
section
variable {pc ec rd wt : Int32} {a1 a2 a3 a4 a5 a6 a7 : Nat → Int32}
theorem gp_push {post : St2 → Prop} {S : List (Nat × Nat × Nat × Nat)} {x0 x1 x2 x3 : Int32} (m P x y : Nat) (e0 : x0 = nI m) (e1 : x1 = nI P) (e2 : x2 = nI x) (e3 : x3 = nI y) (hm : m < 256) (hx : x < 128) (hy : y < 128) (hS : S.length < 12) (h : gp_st a4 a5 a6 a7 S)
    (H : ∀ b4 b5 b6 b7, gp_st b4 b5 b6 b7 ((m, P, x, y) :: S) → post (pc, ec, rd, nI (S.length + 1), a1, a2, a3, b4, b5, b6, b7)) :
    wpX_push post (pc, ec, rd, nI S.length, a1, a2, a3, a4, a5, a6, a7) x0 x1 x2 x3 := by
  subst e0 e1 e2 e3
  unfold wpX_push
  dsimp only
  rw [nI_clamp (show S.length < 2 ^ 31 by omega), gp_s16 m hm, gp_b8 x hx, gp_b8 y hy]
  have hi : vp_in (nI S.length) 12 := pk_in S.length 12 hS
  exact ⟨hi, nm_e ⟨hi, nm_e ⟨hi, nm_e ⟨hi, nm_e (nm_r (nI_1 _) (H _ _ _ _ ⟨⟨pk_us, pk_us, pk_us, pk_us⟩, gp_st_up h (Nat.le_refl _)⟩))⟩⟩⟩⟩
theorem gp_work {post : St2 → Prop} {E : List (Nat × Nat)} {S : List (Nat × Nat × Nat × Nat)} {m P x y : Nat} (hE : gp_ed E a1 a2) (h8 : E.length ≤ 8) (hS : gp_st a4 a5 a6 a7 S) (hc : gp_chk E m P x y S.length)
    (H0 : m = 0 → post (6, nI E.length, rd, nI S.length, a1, a2, upd a3 (9 * x + y) (a3 (9 * x + y) + 1), a4, a5, a6, a7))
    (H1 : m ≠ 0 → ∀ b4 b5 b6 b7, gp_st b4 b5 b6 b7 (gp_wk E m P x y (gp_fb m 8 0) (gp_at E (gp_fb m 8 0)).1 (gp_at E (gp_fb m 8 0)).2 ++ S) → post (6, nI E.length, rd, nI (gp_wk E m P x y (gp_fb m 8 0) (gp_at E (gp_fb m 8 0)).1 (gp_at E (gp_fb m 8 0)).2 ++ S).length, a1, a2, a3, b4, b5, b6, b7)) :
    wpX_workOff post (6, nI E.length, rd, nI S.length, a1, a2, a3, a4, a5, a6, a7) (nI m) (nI P) (nI x) (nI y) := by
  obtain ⟨c1, c2, c3, c4, c5, c6⟩ := hc
  unfold wpX_workOff
  refine pk_eq m 0 (fun z => ?_) (fun z => ?_)
  · have ei : (9 : Int32) * nI x + nI y = nI (9 * x + y) := by
      rw [show (9 : Int32) = nI 9 from rfl, pk_mul, nI_add]
    rw [ei, nI_clamp (show 9 * x + y < 2 ^ 31 by omega)]
    exact ⟨pk_in (9 * x + y) 81 (by omega), pk_in (9 * x + y) 81 (by omega), nm_e (H0 z)⟩
  · have c6' := c6.resolve_left z
    obtain ⟨d1, d2, d3⟩ := c6'
    have H1' := H1 z
    clear H0 H1 c6
    generalize gp_fb m 8 0 = e at d1 d2 d3 H1'
    obtain ⟨u, v, hu, hv, e1, e2, e3⟩ := gp_get hE d1
    have ew : gp_wk E m P x y e (gp_at E e).1 (gp_at E e).2 = gp_wk E m P x y e u v := by
      rcases e3 with e3 | e3
      · rw [e3]
      · rw [e3]; exact gp_wk_comm _ _ _ _ _ _ _ _
    rw [ew] at H1'
    clear ew e3
    have hpow : 1 ≤ 2 ^ e := Nat.two_pow_pos e
    refine pk_loop (σ := Unit) (fun n i _ => wX_workOff_24 post (nI m) (nI P) (nI x) (nI y) 6 (nI E.length) rd (nI S.length) a1 a2 a3 a4 a5 a6 a7 n (nI i)) (fun _ _ => True) e 0 () (by omega) trivial
      (fun n _ _ => ?_) (fun n i _ hi _ hw => br_t (by rw [gp_bitI (by omega) (by omega), d3 i hi]; rfl) (nm_r (nI_1 i) (hw () trivial)))
    refine br_f (by rw [gp_bitI (by omega) (by omega), d2]; decide) ?_
    refine nm_r (gp_clear e (by omega) m c2 d2) ?_
    rw [nI_clamp (show e < 2 ^ 31 by omega)]
    have hi : vp_in (nI e) 8 := pk_in e 8 (by omega)
    refine ⟨hi, gp_po P u rfl e1 c3 hu ⟨hi, gp_po P v rfl e2 c3 hv ?_⟩⟩
    unfold gp_wk at H1'
    refine pk_eq (gp_pt P u) (gp_pt P v) (fun z' => ?_) (fun z' => ?_) rfl rfl (Nat.lt_trans (gp_pt_lt _ _) (by decide)) (Nat.lt_trans (gp_pt_lt _ _) (by decide))
    · rw [if_pos z'] at H1'
      exact gp_push (m - 2 ^ e) P x (y + 1) rfl rfl rfl (nI_1 y) (by omega) (by omega) (by omega) (by omega) hS (fun b4 b5 b6 b7 hb => H1' b4 b5 b6 b7 hb)
    · rw [if_neg z'] at H1'
      refine gp_joined c3 (gp_pt_lt _ _) (gp_pt_lt _ _) (gp_drawn hE h8 (by omega) c3 ⟨hi, ?_⟩)
      have hQ : gp_dt E (m - 2 ^ e) P E.length < 2 ^ 18 := gp_dt_lt c3 _
      refine gp_po _ u rfl e1 hQ hu ⟨hi, gp_po _ v rfl e2 hQ hv ?_⟩
      refine pk_eq (gp_pt (gp_dt E (m - 2 ^ e) P E.length) u) (gp_pt (gp_dt E (m - 2 ^ e) P E.length) v) (fun z2 => ?_) (fun z2 => ?_) rfl rfl (Nat.lt_trans (gp_pt_lt _ _) (by decide)) (Nat.lt_trans (gp_pt_lt _ _) (by decide))
      · rw [if_pos z2] at H1'
        refine gp_push (m - 2 ^ e) P x y rfl rfl rfl rfl (by omega) (by omega) (by omega) (by omega) hS (fun b4 b5 b6 b7 hb => ?_)
        exact gp_push (S := (m - 2 ^ e, P, x, y) :: S) (m - 2 ^ e) _ x y rfl rfl rfl rfl (by omega) (by omega) (by omega) (show S.length + 1 < 12 by omega) hb (fun d4 d5 d6 d7 hd => H1' d4 d5 d6 d7 hd)
      · rw [if_neg z2] at H1'
        exact gp_push (m - 2 ^ e) _ (x + 1) y rfl rfl (nI_1 x) rfl (by omega) (by omega) (by omega) (by omega) hS (fun b4 b5 b6 b7 hb => H1' b4 b5 b6 b7 hb)
end
theorem gp_cnt {a3 : Nat → Int32} {L : List Nat} {k : Nat} (hk : k < 81) (h : ∀ i, i < 81 → a3 i = nI (L.count i)) : ∀ i, i < 81 → upd a3 k (a3 k + 1) i = nI ((k :: L).count i) := by
  intro i hi
  by_cases e : i = k
  · rw [e, pk_us, h k hk, nI_1, List.count_cons_self]
  · rw [pk_un e, h i hi, List.count_cons_of_ne (fun z => e z.symm)]
theorem gp_59 {post : St2 → Prop} {E : List (Nat × Nat)} {rd : Int32} {a1 a2 : Nat → Int32} {F : List Nat} (hE : gp_ed E a1 a2) (h8 : E.length ≤ 8)
    (H : ∀ wt b3 b4 b5 b6 b7, (∀ i, i < 81 → b3 i = nI (F.count i)) → post (6, nI E.length, rd, wt, a1, a2, b3, b4, b5, b6, b7)) :
    ∀ (k : Nat) (S : List (Nat × Nat × Nat × Nat)) (L : List Nat) (a3 a4 a5 a6 a7 : Nat → Int32), gp_run E k S L = some F → S.length < 2 ^ 31 → gp_st a4 a5 a6 a7 S → (∀ i, i < 81 → a3 i = nI (L.count i)) →
      wX_findPolynomial_59 post k 6 (nI E.length) rd (nI S.length) a1 a2 a3 a4 a5 a6 a7 := by
  intro k
  induction k with
  | zero =>
    intro S L a3 a4 a5 a6 a7 hr
    exact absurd hr (by unfold gp_run; exact fun z => nomatch z)
  | succ k ih =>
    intro S L a3 a4 a5 a6 a7 hr hl hS hT
    cases S with
    | nil =>
      unfold gp_run at hr
      have e : L = F := Option.some.inj hr
      subst e
      exact pk_le 0 0 (fun _ => H _ _ _ _ _ _ hT) (fun z => absurd z (by omega))
    | cons s S =>
      obtain ⟨m, P, x, y⟩ := s
      unfold gp_run at hr
      by_cases hc : gp_chk E m P x y S.length
      · rw [if_pos hc] at hr
        have hl' : S.length < 11 := hc.1
        obtain ⟨⟨h4, h5, h6, h7⟩, hS'⟩ := hS
        dsimp only at h4 h5 h6 h7
        refine pk_le (S.length + 1) 0 (fun z => absurd z (by omega)) (fun _ => nm_r (nI_pred S.length) ?_) rfl rfl (by omega) (by omega)
        have hi : vp_in (nI S.length) 12 := pk_in S.length 12 (by omega)
        refine ⟨hi, hi, hi, hi, ?_⟩
        rw [nI_clamp (show S.length < 2 ^ 31 by omega), h4, h5, h6, h7]
        refine gp_work hE h8 hS' hc (fun z => ?_) (fun z b4 b5 b6 b7 hb => ?_)
        · rw [if_pos z] at hr
          exact ih S _ _ a4 a5 a6 a7 hr (by omega) hS' (gp_cnt (by have := hc.2.2.2.1; have := hc.2.2.2.2.1; omega) hT)
        · rw [if_neg z] at hr
          refine ih _ L a3 b4 b5 b6 b7 hr ?_ hb hT
          have : ∀ u v, (gp_wk E m P x y (gp_fb m 8 0) u v).length ≤ 2 := by
            intro u v
            unfold gp_wk
            split
            · exact Nat.le_succ 1
            · split
              · exact Nat.le_refl 2
              · exact Nat.le_succ 1
          have h2 := this (gp_at E (gp_fb m 8 0)).1 (gp_at E (gp_fb m 8 0)).2
          rw [List.length_append]
          omega
      · rw [if_neg hc] at hr
        exact absurd hr (fun z => nomatch z)
/-- the state matches the graph E -/
def gp_K (E : List (Nat × Nat)) (pc ec rd : Int32) (a1 a2 a3 : Nat → Int32) : Prop :=
  pc = 6 ∧ ec = nI E.length ∧ E.length ≤ 8 ∧ gp_ed E a1 a2 ∧ (rd = 0 ∨ ∀ L, gp_poly E = some L → ∀ i, i < 81 → a3 i = nI (L.count i))
theorem gp_find {post : St2 → Prop} {E : List (Nat × Nat)} {L : List Nat} {pc ec rd wt : Int32} {a1 a2 a3 a4 a5 a6 a7 : Nat → Int32} (hK : gp_K E pc ec rd a1 a2 a3) (hL : gp_poly E = some L)
    (H : ∀ rd wt b3 b4 b5 b6 b7, gp_K E 6 (nI E.length) rd a1 a2 b3 → (∀ i, i < 81 → b3 i = nI (L.count i)) → post (6, nI E.length, rd, wt, a1, a2, b3, b4, b5, b6, b7)) :
    wpX_findPolynomial post (pc, ec, rd, wt, a1, a2, a3, a4, a5, a6, a7) := by
  obtain ⟨k1, k2, k3, k4, k5⟩ := hK
  subst k1 k2
  have G : ∀ rd b3, (∀ i, i < 81 → b3 i = nI (L.count i)) → gp_K E 6 (nI E.length) rd a1 a2 b3 := by
    intro rd b3 hb
    refine ⟨rfl, rfl, k3, k4, Or.inr (fun L' hL' => ?_)⟩
    rw [hL] at hL'
    rw [← Option.some.inj hL']
    exact hb
  unfold wpX_findPolynomial
  refine br_c (fun z => ?_) (fun z => ?_)
  · refine pk_loop (fun n i s => wX_findPolynomial_15 post 6 (nI E.length) 1 wt n (nI i) a1 a2 s a4 a5 a6 a7) (fun i s => ∀ j, j < i → s j = 0) 81 0 a3 (by omega) (fun j hj => absurd hj (by omega))
      (fun n s h => pk_le 81 81 (fun _ => gp_start ?_) (fun z => absurd z (by omega)))
      (fun n i s hi h hw => pk_le 81 i (fun z => absurd z (by omega)) (fun _ => ⟨pk_in i 81 hi, nm_e (nm_r (nI_1 i) (hw _ (fun j hj => ?_)))⟩))
    · rw [gp_full E.length (by omega)]
      have hm : 2 ^ E.length - 1 < 256 := by
        have : 2 ^ E.length ≤ 2 ^ 8 := Nat.pow_le_pow_right (by decide) k3
        omega
      refine gp_push (S := []) (2 ^ E.length - 1) 181896 0 0 rfl rfl rfl rfl hm (by omega) (by omega) (by decide) trivial (fun b4 b5 b6 b7 hb => ?_)
      refine ⟨100, gp_59 k4 k3 (fun wt b3 b4 b5 b6 b7 hb => H _ _ _ _ _ _ _ (G _ _ hb) hb) 100 [(2 ^ E.length - 1, 181896, 0, 0)] [] s b4 b5 b6 b7 hL (show 1 < 2 ^ 31 by decide) hb (fun i hi => ?_)⟩
      rw [h i hi]
      rfl
    · rw [nI_clamp (show i < 2 ^ 31 by omega)]
      by_cases e : j = i
      · rw [e, pk_us]
      · rw [pk_un e]
        exact h j (by omega)
  · have hb := (k5.resolve_left z) L hL
    exact H _ _ _ _ _ _ _ (G _ _ hb) hb
end
section
section
variable {pc ec rd wt : Int32} {a1 a2 a3 a4 a5 a6 a7 : Nat → Int32}
theorem gp_v26 {post : Int32 → St2 → Prop} {J : Int32 → Int32 → Int32 → Prop} {T : Nat → Int32} {x y s w : Int32} {i : Nat} (hT : ∀ i, i < 81 → a3 i = T i) (hi : i < 9) (H : J (gp_sm T y i s w 9) (w * x) (nI (i + 1))) :
    ∃ n, wX_valueAt_26 post J x y w (nI i) pc ec rd wt a1 a2 a3 a4 a5 a6 a7 n s w 0 :=
  pk_loop (σ := Unit) (fun n j _ => wX_valueAt_26 post J x y w (nI i) pc ec rd wt a1 a2 a3 a4 a5 a6 a7 n (gp_sm T y i s w j) (gp_pw w y j) (nI j)) (fun _ _ => True) 9 0 () (by omega) trivial
    (fun n _ _ => pk_le 9 9 (fun _ => nm_e (nm_r (nI_1 i) H)) (fun z => absurd z (by omega)))
    (fun n j _ hj _ hw => by
      have ei : (9 : Int32) * nI i + nI j = nI (9 * i + j) := by
        rw [show (9 : Int32) = nI 9 from rfl, pk_mul, nI_add]
      refine pk_le 9 j (fun z => absurd z (by omega)) (fun _ => ⟨pk_in (9 * i + j) 81 (by omega) ei, nm_r ?_ (nm_e (nm_r (nI_1 j) (hw () trivial)))⟩)
      rw [ei, nI_clamp (show 9 * i + j < 2 ^ 31 by omega), hT _ (by omega)]
      rfl)
theorem gp_value {post : Int32 → St2 → Prop} {E : List (Nat × Nat)} {L : List Nat} {x y : Int32} (hK : gp_K E pc ec rd a1 a2 a3) (hL : gp_poly E = some L)
    (H : ∀ rd wt b3 b4 b5 b6 b7, gp_K E 6 (nI E.length) rd a1 a2 b3 → post (gp_val L x y) (6, nI E.length, rd, wt, a1, a2, b3, b4, b5, b6, b7)) :
    wpX_valueAt post (pc, ec, rd, wt, a1, a2, a3, a4, a5, a6, a7) x y := by
  unfold wpX_valueAt
  refine gp_find hK hL (fun rd wt b3 b4 b5 b6 b7 hK' hb => ?_)
  exact pk_loop (σ := Unit) (fun n i _ => wX_valueAt_12 post x y 6 (nI E.length) rd wt a1 a2 b3 b4 b5 b6 b7 n (gp_sv (fun k => nI (L.count k)) x y i) (gp_pw 1 x i) (nI i)) (fun _ _ => True) 9 0 () (by omega) trivial
    (fun n _ _ => pk_le 9 9 (fun _ => H _ _ _ _ _ _ _ hK') (fun z => absurd z (by omega)))
    (fun n i _ hi _ hw => pk_le 9 i (fun z => absurd z (by omega)) (fun _ => gp_v26 hb hi (hw () trivial)))
theorem gp_trees {post : Int32 → St2 → Prop} {E : List (Nat × Nat)} {L : List Nat} (hK : gp_K E pc ec rd a1 a2 a3) (hL : gp_poly E = some L)
    (H : ∀ rd wt b3 b4 b5 b6 b7, gp_K E 6 (nI E.length) rd a1 a2 b3 → post (gp_val L 1 1) (6, nI E.length, rd, wt, a1, a2, b3, b4, b5, b6, b7)) : wpX_trees post (pc, ec, rd, wt, a1, a2, a3, a4, a5, a6, a7) := by
  unfold wpX_trees
  exact gp_value hK hL H
theorem gp_forests {post : Int32 → St2 → Prop} {E : List (Nat × Nat)} {L : List Nat} (hK : gp_K E pc ec rd a1 a2 a3) (hL : gp_poly E = some L)
    (H : ∀ rd wt b3 b4 b5 b6 b7, gp_K E 6 (nI E.length) rd a1 a2 b3 → post (gp_val L 2 1) (6, nI E.length, rd, wt, a1, a2, b3, b4, b5, b6, b7)) : wpX_forests post (pc, ec, rd, wt, a1, a2, a3, a4, a5, a6, a7) := by
  unfold wpX_forests
  exact gp_value hK hL H
theorem gp_spanning {post : Int32 → St2 → Prop} {E : List (Nat × Nat)} {L : List Nat} (hK : gp_K E pc ec rd a1 a2 a3) (hL : gp_poly E = some L)
    (H : ∀ rd wt b3 b4 b5 b6 b7, gp_K E 6 (nI E.length) rd a1 a2 b3 → post (gp_val L 1 2) (6, nI E.length, rd, wt, a1, a2, b3, b4, b5, b6, b7)) : wpX_spanning post (pc, ec, rd, wt, a1, a2, a3, a4, a5, a6, a7) := by
  unfold wpX_spanning
  exact gp_value hK hL H
theorem gp_acyclic {post : Int32 → St2 → Prop} {E : List (Nat × Nat)} {L : List Nat} (hK : gp_K E pc ec rd a1 a2 a3) (hL : gp_poly E = some L)
    (H : ∀ rd wt b3 b4 b5 b6 b7, gp_K E 6 (nI E.length) rd a1 a2 b3 → post (gp_val L 2 0) (6, nI E.length, rd, wt, a1, a2, b3, b4, b5, b6, b7)) : wpX_acyclic post (pc, ec, rd, wt, a1, a2, a3, a4, a5, a6, a7) := by
  unfold wpX_acyclic
  exact gp_value hK hL H
theorem gp_partsK {post : Int32 → Prop} {E : List (Nat × Nat)} (hK : gp_K E pc ec rd a1 a2 a3) (H : post (nI (gp_parts E))) : wpX_parts post (pc, ec, rd, wt, a1, a2, a3, a4, a5, a6, a7) := by
  obtain ⟨k1, k2, k3, k4, k5⟩ := hK
  subst k1 k2
  exact gp_partsW k4 k3 H
theorem gp_sgW {A : Int32 → Prop} {x v : Int32} (H : A (gp_sg x v)) : (x &&& 1 = 0 → A v) ∧ (¬ x &&& 1 = 0 → A (-v)) := by
  unfold gp_sg at H
  refine br_c (fun z => ?_) (fun z => ?_)
  · rw [if_pos z] at H; exact H
  · rw [if_neg z] at H; exact H
theorem gp_colourings {post : Int32 → St2 → Prop} {E : List (Nat × Nat)} {L : List Nat} {q : Nat} (hq : q < 7) (hK : gp_K E pc ec rd a1 a2 a3) (hL : gp_poly E = some L)
    (H : ∀ rd wt b3 b4 b5 b6 b7, gp_K E 6 (nI E.length) rd a1 a2 b3 → post (gp_col E L (nI q)) (6, nI E.length, rd, wt, a1, a2, b3, b4, b5, b6, b7)) :
    wpX_colourings post (pc, ec, rd, wt, a1, a2, a3, a4, a5, a6, a7) (nI q) := by
  unfold wpX_colourings
  refine pk_lt q 0 (fun z => absurd z (by omega)) (fun _ => pk_le q 6 (fun _ => ?_) (fun z => absurd z (by omega)))
  refine gp_partsK hK (gp_value hK hL (fun rd wt b3 b4 b5 b6 b7 hK' => ?_))
  have hs : gp_parts E ≤ 6 := gp_pc_le _ 6
  have H' : post (gp_sg (6 - nI (gp_parts E)) (gp_pw (gp_val L (1 - nI q) 0) (nI q) (gp_parts E))) (6, nI E.length, rd, wt, a1, a2, b3, b4, b5, b6, b7) := H rd wt b3 b4 b5 b6 b7 hK'
  generalize gp_parts E = s at hs H'
  exact pk_loop (σ := Unit) (fun n i _ => wX_colourings_29 post (nI q) (nI s) 6 (nI E.length) rd wt a1 a2 b3 b4 b5 b6 b7 n (gp_pw (gp_val L (1 - nI q) 0) (nI q) i) (nI i)) (fun _ _ => True) s 0 () (by omega) trivial
    (fun n _ _ => pk_le s s (fun _ => gp_sgW (A := fun r => post r (6, nI E.length, rd, wt, a1, a2, b3, b4, b5, b6, b7)) H') (fun z => absurd z (by omega)))
    (fun n i _ hi _ hw => pk_le s i (fun z => absurd z (by omega)) (fun _ => nm_e (nm_r (nI_1 i) (hw () trivial))))
theorem gp_flows {post : Int32 → St2 → Prop} {E : List (Nat × Nat)} {L : List Nat} {p0 : Int32} (k : Nat) (hp : p0 = nI k) (h1 : 1 ≤ k) (h4 : k ≤ 4) (hK : gp_K E pc ec rd a1 a2 a3) (hL : gp_poly E = some L)
    (H : ∀ rd wt b3 b4 b5 b6 b7, gp_K E 6 (nI E.length) rd a1 a2 b3 → post (gp_flw E L (nI k)) (6, nI E.length, rd, wt, a1, a2, b3, b4, b5, b6, b7)) :
    wpX_flows post (pc, ec, rd, wt, a1, a2, a3, a4, a5, a6, a7) p0 := by
  subst hp
  unfold wpX_flows
  refine pk_lt k 1 (fun z => absurd z (by omega)) (fun _ => pk_le k 4 (fun _ => ?_) (fun z => absurd z (by omega)))
  refine gp_partsK hK (gp_value hK hL (fun rd wt b3 b4 b5 b6 b7 hK' => ?_))
  exact gp_sgW (A := fun r => post r (6, nI E.length, rd, wt, a1, a2, b3, b4, b5, b6, b7)) (H rd wt b3 b4 b5 b6 b7 hK')
theorem gp_coef {post : Int32 → St2 → Prop} {E : List (Nat × Nat)} {L : List Nat} {p0 p1 : Int32} (i j : Nat) (e0 : p0 = nI i) (e1 : p1 = nI j) (hi : i ≤ 8) (hj : j ≤ 8) (hK : gp_K E pc ec rd a1 a2 a3) (hL : gp_poly E = some L)
    (H : ∀ rd wt b3 b4 b5 b6 b7, gp_K E 6 (nI E.length) rd a1 a2 b3 → post (nI (L.count (9 * i + j))) (6, nI E.length, rd, wt, a1, a2, b3, b4, b5, b6, b7)) :
    wpX_coefficient post (pc, ec, rd, wt, a1, a2, a3, a4, a5, a6, a7) p0 p1 := by
  subst e0 e1
  unfold wpX_coefficient
  refine pk_lt i 0 (fun z => absurd z (by omega)) (fun _ => pk_lt 8 i (fun z => absurd z (by omega)) (fun _ => pk_lt j 0 (fun z => absurd z (by omega)) (fun _ => pk_le j 8 (fun _ => ?_) (fun z => absurd z (by omega)))))
  refine gp_find hK hL (fun rd wt b3 b4 b5 b6 b7 hK' hb => ?_)
  have ei : (9 : Int32) * nI i + nI j = nI (9 * i + j) := by
    rw [show (9 : Int32) = nI 9 from rfl, pk_mul, nI_add]
  dsimp only
  rw [ei, nI_clamp (show 9 * i + j < 2 ^ 31 by omega), hb _ (by omega)]
  exact ⟨pk_in (9 * i + j) 81 (by omega), H _ _ _ _ _ _ _ hK'⟩
theorem gp_ed_add {E : List (Nat × Nat)} {u v U V : Nat} (hE : gp_ed E a1 a2) (hu : u < 6) (hv : v < 6) (hs : (u = U ∧ v = V) ∨ (u = V ∧ v = U)) : gp_ed (E ++ [(U, V)]) (upd a1 E.length (nI u)) (upd a2 E.length (nI v)) := by
  intro e U' V' he
  rcases Nat.lt_trichotomy e E.length with h | h | h
  · rw [List.getElem?_append_left h] at he
    rw [pk_un (by omega), pk_un (by omega)]
    exact hE e U' V' he
  · subst h
    rw [List.getElem?_concat_length] at he
    obtain ⟨rfl, rfl⟩ := Prod.mk.inj (Option.some.inj he)
    rw [pk_us, pk_us]
    rcases hs with ⟨rfl, rfl⟩ | ⟨rfl, rfl⟩
    · exact ⟨hu, hv, Or.inl ⟨rfl, rfl⟩⟩
    · exact ⟨hv, hu, Or.inr ⟨rfl, rfl⟩⟩
  · rw [List.getElem?_eq_none (by rw [List.length_append]; exact h)] at he
    exact absurd he (fun z => nomatch z)
theorem gp_add {post : Int32 → St2 → Prop} {E : List (Nat × Nat)} {p0 p1 : Int32} (u v U V : Nat) (e0 : p0 = nI u) (e1 : p1 = nI v) (hu : u < 6) (hv : v < 6) (hs : (u = U ∧ v = V) ∨ (u = V ∧ v = U)) (h8 : E.length < 8) (hK : gp_K E pc ec rd a1 a2 a3)
    (H : ∀ b1 b2, gp_K (E ++ [(U, V)]) 6 (nI (E.length + 1)) 0 b1 b2 a3 → post (nI (E.length + 1)) (6, nI (E.length + 1), 0, wt, b1, b2, a3, a4, a5, a6, a7)) :
    wpX_add post (pc, ec, rd, wt, a1, a2, a3, a4, a5, a6, a7) p0 p1 := by
  obtain ⟨k1, k2, k3, k4, k5⟩ := hK
  subst k1 k2 e0 e1
  unfold wpX_add
  refine pk_lt E.length 8 (fun _ => ?_) (fun z => absurd z (by omega))
  refine pk_lt u 0 (fun z => absurd z (by omega)) (fun _ => pk_le 6 u (fun z => absurd z (by omega)) (fun _ => pk_lt v 0 (fun z => absurd z (by omega)) (fun _ => pk_lt v 6 (fun _ => ?_) (fun z => absurd z (by omega)))))
  rw [nI_clamp (show E.length < 2 ^ 31 by omega), gp_b8 u (by omega), gp_b8 v (by omega)]
  have hi : vp_in (nI E.length) 8 := pk_in E.length 8 h8
  exact ⟨hi, nm_e ⟨hi, nm_e (nm_r (nI_1 _) (H _ _ ⟨rfl, by rw [List.length_append]; rfl, by rw [List.length_append]; exact h8, gp_ed_add k4 hu hv hs, Or.inl rfl⟩))⟩⟩
/-- the arrays of drop: places i .. k - 1 moved down -/
def gp_mv (a b : Nat → Int32) (i k : Nat) : Prop := ∀ e, b e = if i ≤ e ∧ e < k then a (e + 1) else a e
theorem gp_mv_s {a b : Nat → Int32} {i k : Nat} (hk : i ≤ k) (h : gp_mv a b i k) : gp_mv a (upd b k (a (k + 1))) i (k + 1) := by
  intro e
  by_cases he : e = k
  · rw [he, pk_us, if_pos ⟨hk, Nat.lt_succ_self k⟩]
  · rw [pk_un he, h e]
    by_cases hc : i ≤ e ∧ e < k
    · rw [if_pos hc, if_pos ⟨hc.1, by omega⟩]
    · rw [if_neg hc, if_neg (fun z => hc ⟨z.1, by omega⟩)]
theorem gp_ed_drop {E : List (Nat × Nat)} {b1 b2 : Nat → Int32} {i : Nat} (hE : gp_ed E a1 a2) (h1 : gp_mv a1 b1 i (E.length - 1)) (h2 : gp_mv a2 b2 i (E.length - 1)) : gp_ed (E.eraseIdx i) b1 b2 := by
  intro e U V he
  rw [List.getElem?_eraseIdx] at he
  by_cases h : e < i
  · rw [if_pos h] at he
    rw [h1 e, h2 e, if_neg (fun z => absurd z.1 (by omega)), if_neg (fun z => absurd z.1 (by omega))]
    exact hE e U V he
  · rw [if_neg h] at he
    have hl : e + 1 < E.length := by
      rcases Nat.lt_or_ge (e + 1) E.length with g | g
      · exact g
      · rw [List.getElem?_eq_none g] at he
        exact absurd he (fun z => nomatch z)
    rw [h1 e, h2 e, if_pos ⟨by omega, by omega⟩, if_pos ⟨by omega, by omega⟩]
    exact hE (e + 1) U V he
theorem gp_drop {post : Int32 → St2 → Prop} {E : List (Nat × Nat)} {p0 : Int32} (i : Nat) (e0 : p0 = nI i) (hi : i < E.length) (hK : gp_K E pc ec rd a1 a2 a3)
    (H : ∀ b1 b2, gp_K (E.eraseIdx i) 6 (nI (E.length - 1)) 0 b1 b2 a3 → post (nI (E.length - 1)) (6, nI (E.length - 1), 0, wt, b1, b2, a3, a4, a5, a6, a7)) :
    wpX_drop post (pc, ec, rd, wt, a1, a2, a3, a4, a5, a6, a7) p0 := by
  obtain ⟨k1, k2, k3, k4, k5⟩ := hK
  subst k1 k2 e0
  unfold wpX_drop
  refine pk_lt i 0 (fun z => absurd z (by omega)) (fun _ => pk_lt i E.length (fun _ => ?_) (fun z => absurd z (by omega)))
  refine nm_r (e' := nI (E.length - 1)) (pk_sub (b := 1) (by omega)) ?_
  refine pk_loop (σ := (Nat → Int32) × (Nat → Int32)) (fun n k s => wX_drop_26 post 6 (nI (E.length - 1)) rd wt n (nI k) s.1 s.2 a3 a4 a5 a6 a7) (fun k s => i ≤ k ∧ gp_mv a1 s.1 i k ∧ gp_mv a2 s.2 i k) (E.length - 1) i (a1, a2) (by omega)
    ⟨Nat.le_refl i, fun e => by rw [if_neg (fun z => absurd z.1 (by omega))], fun e => by rw [if_neg (fun z => absurd z.1 (by omega))]⟩
    (fun n s h => pk_le (E.length - 1) (E.length - 1) (fun _ => H _ _ ⟨rfl, by rw [List.length_eraseIdx_of_lt hi], by rw [List.length_eraseIdx_of_lt hi]; omega, gp_ed_drop k4 h.2.1 h.2.2, Or.inl rfl⟩) (fun z => absurd z (by omega)))
    (fun n k s hk h hw => ?_)
  obtain ⟨b1, b2⟩ := s
  obtain ⟨h0, h1, h2⟩ := h
  dsimp only at h1 h2
  obtain ⟨u, v, hu, hv, g1, g2, _⟩ := gp_get k4 (show k + 1 < E.length by omega)
  have q1 : vp_nar .byte (b1 (k + 1)) = a1 (k + 1) := by
    rw [h1 (k + 1), if_neg (fun z => absurd z.2 (by omega)), g1]
    exact gp_nar (by omega)
  have q2 : vp_nar .byte (b2 (k + 1)) = a2 (k + 1) := by
    rw [h2 (k + 1), if_neg (fun z => absurd z.2 (by omega)), g2]
    exact gp_nar (by omega)
  refine pk_le (E.length - 1) k (fun z => absurd z (by omega)) (fun _ => ?_)
  show vp_in (nI k + 1) 8 ∧ _
  rw [nI_1 k, nI_clamp (show k < 2 ^ 31 by omega), nI_clamp (show k + 1 < 2 ^ 31 by omega)]
  have i1 : vp_in (nI (k + 1)) 8 := pk_in (k + 1) 8 (by omega)
  have i0 : vp_in (nI k) 8 := pk_in k 8 (by omega)
  exact ⟨i1, i0, nm_e ⟨i1, i0, nm_e (nm_e (hw (_, _) ⟨by omega, by rw [q1]; exact gp_mv_s h0 h1, by rw [q2]; exact gp_mv_s h0 h2⟩))⟩⟩
theorem gp_dropBad {post : Int32 → St2 → Prop} {E : List (Nat × Nat)} {p0 : Int32} (i : Nat) (e0 : p0 = nI i) (hi : E.length ≤ i) (hb : i < 2 ^ 31) (hK : gp_K E pc ec rd a1 a2 a3)
    (H : post (-1) (pc, nI E.length, rd, wt, a1, a2, a3, a4, a5, a6, a7)) :
    wpX_drop post (pc, ec, rd, wt, a1, a2, a3, a4, a5, a6, a7) p0 := by
  obtain ⟨k1, k2, k3, k4, k5⟩ := hK
  subst k1 k2 e0
  unfold wpX_drop
  exact pk_lt i 0 (fun z => absurd z (by omega)) (fun _ => pk_lt i E.length (fun z => absurd z (by omega)) (fun _ => H))
/-- merge: hi becomes lo -/
def gp_rp (lo hi x : Nat) : Nat := if x = hi then lo else x
def gp_rI (lo hi x : Int32) : Int32 := if x = hi then lo else x
theorem gp_rpI {lo hi x : Nat} (hh : hi < 6) (hx : x < 6) : gp_rI (nI lo) (nI hi) (nI x) = nI (gp_rp lo hi x) := by
  unfold gp_rI gp_rp
  by_cases h : x = hi
  · rw [if_pos h, if_pos (by rw [h])]
  · rw [if_neg h, if_neg (fun z => h ((nI_eq (by omega) (by omega)).mp z))]
def gp_rm (lo hi : Nat) (E : List (Nat × Nat)) : List (Nat × Nat) := E.map (fun p => (gp_rp lo hi p.1, gp_rp lo hi p.2))
def gp_mg (E : List (Nat × Nat)) (i : Nat) : List (Nat × Nat) := gp_rm (min (gp_at E i).1 (gp_at E i).2) (max (gp_at E i).1 (gp_at E i).2) (E.eraseIdx i)
/-- the arrays of merge: places below k are made over -/
def gp_mr (lo hi : Int32) (a b : Nat → Int32) (k : Nat) : Prop := ∀ e, b e = if e < k then gp_rI lo hi (a e) else a e
theorem gp_mr_t {lo hi : Int32} {a b : Nat → Int32} {k : Nat} (h : gp_mr lo hi a b k) (z : b k = hi) : gp_mr lo hi a (upd b k lo) (k + 1) := by
  intro e
  by_cases he : e = k
  · rw [h k, if_neg (by omega)] at z
    rw [he, pk_us, if_pos (Nat.lt_succ_self k), gp_rI, if_pos z]
  · rw [pk_un he, h e]
    by_cases hc : e < k
    · rw [if_pos hc, if_pos (by omega)]
    · rw [if_neg hc, if_neg (by omega)]
theorem gp_mr_f {lo hi : Int32} {a b : Nat → Int32} {k : Nat} (h : gp_mr lo hi a b k) (z : ¬ b k = hi) : gp_mr lo hi a b (k + 1) := by
  intro e
  by_cases he : e = k
  · rw [h k, if_neg (by omega)] at z
    rw [he, h k, if_neg (by omega), if_pos (Nat.lt_succ_self k), gp_rI, if_neg z]
  · rw [h e]
    by_cases hc : e < k
    · rw [if_pos hc, if_pos (by omega)]
    · rw [if_neg hc, if_neg (by omega)]
theorem gp_ed_rm {E : List (Nat × Nat)} {b1 b2 : Nat → Int32} {lo hi : Nat} (hl : lo < 6) (hh : hi < 6) (hE : gp_ed E a1 a2) (h1 : gp_mr (nI lo) (nI hi) a1 b1 E.length) (h2 : gp_mr (nI lo) (nI hi) a2 b2 E.length) : gp_ed (gp_rm lo hi E) b1 b2 := by
  have hr : ∀ x, x < 6 → gp_rp lo hi x < 6 := by
    intro x hx
    unfold gp_rp
    by_cases h : x = hi
    · rw [if_pos h]; exact hl
    · rw [if_neg h]; exact hx
  intro e U V he
  unfold gp_rm at he
  rw [List.getElem?_map] at he
  have hl : e < E.length := by
    rcases Nat.lt_or_ge e E.length with g | g
    · exact g
    · rw [List.getElem?_eq_none g] at he
      exact absurd he (fun z => nomatch z)
  have g : E[e]? = some (E[e].1, E[e].2) := List.getElem?_eq_getElem hl
  rw [g] at he
  obtain ⟨hu, hv, hs⟩ := hE e _ _ g
  obtain ⟨rfl, rfl⟩ := Prod.mk.inj (Option.some.inj he)
  refine ⟨hr _ hu, hr _ hv, ?_⟩
  rw [h1 e, h2 e, if_pos hl, if_pos hl]
  rcases hs with ⟨p, q⟩ | ⟨p, q⟩
  · rw [p, q, gp_rpI hh hu, gp_rpI hh hv]
    exact Or.inl ⟨rfl, rfl⟩
  · rw [p, q, gp_rpI hh hu, gp_rpI hh hv]
    exact Or.inr ⟨rfl, rfl⟩
theorem gp_m92 {post : Int32 → St2 → Prop} {J : Int32 → (Nat → Int32) → (Nat → Int32) → (Nat → Int32) → (Nat → Int32) → (Nat → Int32) → (Nat → Int32) → (Nat → Int32) → Prop} {lo k : Nat} {hi : Int32} {o2 : Nat → Int32} (hl : lo < 6) (hk : k < 8) (h : gp_mr (nI lo) hi o2 a2 k)
    (H : ∀ b2, gp_mr (nI lo) hi o2 b2 (k + 1) → J (nI (k + 1)) a1 b2 a3 a4 a5 a6 a7) : wX_merge_92 post J (nI lo) hi (nI k) pc ec rd wt a1 a2 a3 a4 a5 a6 a7 := by
  unfold wX_merge_92
  rw [nI_clamp (show k < 2 ^ 31 by omega), gp_b8 lo (by omega)]
  have i0 : vp_in (nI k) 8 := pk_in k 8 hk
  exact ⟨i0, br_c (fun z => ⟨i0, nm_e (nm_r (nI_1 k) (H _ (gp_mr_t h z)))⟩) (fun z => nm_r (nI_1 k) (H _ (gp_mr_f h z)))⟩
theorem gp_m61 {post : Int32 → St2 → Prop} {E : List (Nat × Nat)} {lo hi : Nat} (hl : lo < 6) (hh : hi < 6) (h8 : E.length ≤ 8) (hE : gp_ed E a1 a2)
    (H : ∀ b1 b2, gp_ed (gp_rm lo hi E) b1 b2 → post (nI E.length) (6, nI E.length, rd, wt, b1, b2, a3, a4, a5, a6, a7)) :
    ∃ n, wX_merge_61 post (nI lo) (nI hi) 6 (nI E.length) rd wt n 0 a1 a2 a3 a4 a5 a6 a7 := by
  refine pk_loop (σ := (Nat → Int32) × (Nat → Int32)) (fun n k s => wX_merge_61 post (nI lo) (nI hi) 6 (nI E.length) rd wt n (nI k) s.1 s.2 a3 a4 a5 a6 a7) (fun k s => gp_mr (nI lo) (nI hi) a1 s.1 k ∧ gp_mr (nI lo) (nI hi) a2 s.2 k) E.length 0 (a1, a2) (by omega)
    ⟨fun e => by rw [if_neg (by omega)], fun e => by rw [if_neg (by omega)]⟩
    (fun n s h => pk_le E.length E.length (fun _ => H _ _ (gp_ed_rm hl hh hE h.1 h.2)) (fun z => absurd z (by omega)))
    (fun n k s hk h hw => ?_)
  obtain ⟨b1, b2⟩ := s
  obtain ⟨h1, h2⟩ := h
  refine pk_le E.length k (fun z => absurd z (by omega)) (fun _ => ?_)
  have i0 : vp_in (nI k) 8 := pk_in k 8 (by omega)
  refine ⟨i0, ?_⟩
  rw [nI_clamp (show k < 2 ^ 31 by omega), gp_b8 lo (by omega)]
  exact br_c (fun z => ⟨i0, nm_e (gp_m92 hl (by omega) h2 (fun c2 hc => hw (_, c2) ⟨gp_mr_t h1 z, hc⟩))⟩) (fun z => gp_m92 hl (by omega) h2 (fun c2 hc => hw (_, c2) ⟨gp_mr_f h1 z, hc⟩))
theorem gp_m50 {post : Int32 → St2 → Prop} {E : List (Nat × Nat)} {lo hi i : Nat} (hl : lo < 6) (hh : hi < 6) (hi' : i < E.length) (hK : gp_K E 6 (nI E.length) rd a1 a2 a3)
    (H : ∀ b1 b2, gp_K (gp_rm lo hi (E.eraseIdx i)) 6 (nI (E.length - 1)) 0 b1 b2 a3 → post (nI (E.length - 1)) (6, nI (E.length - 1), 0, wt, b1, b2, a3, a4, a5, a6, a7)) :
    wX_merge_50 post (nI i) (nI lo) (nI hi) 6 (nI E.length) rd wt a1 a2 a3 a4 a5 a6 a7 := by
  unfold wX_merge_50
  have hle : (E.eraseIdx i).length = E.length - 1 := List.length_eraseIdx_of_lt hi'
  refine gp_drop i rfl hi' hK (fun b1 b2 hK' => ?_)
  obtain ⟨k1, k2, k3, k4, k5⟩ := hK'
  rw [← hle]
  rw [← hle] at H
  exact gp_m61 hl hh k3 k4 (fun c1 c2 hc => H c1 c2 ⟨rfl, by rw [gp_rm, List.length_map], by rw [gp_rm, List.length_map]; exact k3, hc, Or.inl rfl⟩)
theorem gp_merge {post : Int32 → St2 → Prop} {E : List (Nat × Nat)} {p0 : Int32} (i : Nat) (e0 : p0 = nI i) (hi : i < E.length) (hK : gp_K E pc ec rd a1 a2 a3)
    (H : ∀ b1 b2, gp_K (gp_mg E i) 6 (nI (E.length - 1)) 0 b1 b2 a3 → post (nI (E.length - 1)) (6, nI (E.length - 1), 0, wt, b1, b2, a3, a4, a5, a6, a7)) :
    wpX_merge post (pc, ec, rd, wt, a1, a2, a3, a4, a5, a6, a7) p0 := by
  have hK0 := hK
  obtain ⟨k1, k2, k3, k4, k5⟩ := hK
  subst k1 k2 e0
  obtain ⟨u, v, hu, hv, g1, g2, g3⟩ := gp_get k4 hi
  unfold wpX_merge
  rw [nI_clamp (show i < 2 ^ 31 by omega)]
  have i0 : vp_in (nI i) 8 := pk_in i 8 (by omega)
  refine pk_lt i 0 (fun z => absurd z (by omega)) (fun _ => pk_lt i E.length (fun _ => ⟨i0, nm_r g1 ⟨i0, nm_r g2 ?_⟩⟩) (fun z => absurd z (by omega)))
  have em : gp_mg E i = gp_rm (min u v) (max u v) (E.eraseIdx i) := by
    unfold gp_mg
    rcases g3 with g3 | g3
    · rw [g3]
    · rw [g3]
      show gp_rm (min v u) (max v u) _ = _
      rw [Nat.min_comm v u, Nat.max_comm v u]
  rw [em] at H
  refine pk_le v u (fun z => ?_) (fun z => ?_)
  · rw [Nat.min_eq_right z, Nat.max_eq_left z] at H
    exact pk_le v u (fun _ => gp_m50 hv hu hi hK0 H) (fun z' => absurd z' (by omega))
  · rw [Nat.min_eq_left (by omega), Nat.max_eq_right (by omega)] at H
    exact pk_le v u (fun z' => absurd z' (by omega)) (fun _ => gp_m50 hu hv hi hK0 H)
end
end
section
/-! the law's graphs: the circle, with a chord, the chord merged, with a pendant edge, with a loop, and without its first edge -/
def gp_C (n : Nat) : List (Nat × Nat) := (List.range n).map (fun u => (u, (u + 1) % n))
def gp_cir (n : Nat) (q : Int32) : Int32 := if nI n &&& 1 = 0 then (gp_pw 1 (q - 1) n + q) - 1 else (gp_pw 1 (q - 1) n - q) + 1
def gp_fr (q : Int32) (r : Nat) : Nat → Int32
  | 0 => 1
  | i + 1 => if r ≤ i then gp_fr q r i else gp_fr q r i * q
def gp_FC (n : Nat) (L : List Nat) : Prop :=
  gp_poly (gp_C n) = some L ∧ gp_val L 1 1 = nI n ∧ gp_val L 2 1 = ((1 : Int32) <<< (nI n &&& 31)) - 1 ∧ gp_val L 1 2 = nI n + 1 ∧ nI (gp_parts (gp_C n)) = 7 - nI n ∧
  (∀ q, q < 7 → gp_col (gp_C n) L (nI q) = gp_cir n (nI q) * gp_fr (nI q) (6 - n) 3) ∧ gp_val L 2 0 = ((1 : Int32) <<< (nI n &&& 31)) - 2 ∧ (∀ r, r < 4 → gp_flw (gp_C n) L (nI (1 + r)) = nI r) ∧
  (∀ i, i < 9 → 1 ≤ i → nI (L.count (9 * i + 0)) = if n ≤ i then 0 else 1) ∧ (∀ i, i < 9 → 1 ≤ i → nI (L.count (9 * 0 + i)) = if i = 1 then 1 else 0)
def gp_F0 (n : Nat) (p : Int32) (L M : List Nat) : Prop :=
  gp_poly (gp_C n ++ [(0, 2)]) = some L ∧ gp_val L 1 1 = nI n + p * (nI n - p) ∧ gp_flw (gp_C n ++ [(0, 2)]) L (nI 2) = 0 ∧ gp_flw (gp_C n ++ [(0, 2)]) L (nI 3) = 2 ∧
  gp_poly (gp_mg (gp_C n ++ [(0, 2)]) n) = some M ∧ gp_val M 1 1 = p * (nI n - p) ∧ nI (gp_parts (gp_mg (gp_C n ++ [(0, 2)]) n)) = 8 - nI n ∧ (gp_mg (gp_C n ++ [(0, 2)]) n).length = n
def gp_F1 (n : Nat) (L : List Nat) : Prop :=
  gp_poly (gp_C n ++ [(1, n)]) = some L ∧ gp_val L 1 1 = nI n ∧ gp_val L 2 1 = 2 * (((1 : Int32) <<< (nI n &&& 31)) - 1) ∧
  (∀ q, q < 7 → gp_col (gp_C n ++ [(1, n)]) L (nI q) = ((gp_cir n (nI q) * gp_fr (nI q) (6 - n) 3) / (if q = 0 then 1 else nI q)) * (nI q - 1)) ∧
  gp_flw (gp_C n ++ [(1, n)]) L (nI 4) = 0 ∧ gp_val L 2 0 = 2 * (((1 : Int32) <<< (nI n &&& 31)) - 2) ∧ nI (L.count (9 * 2 + 0)) = 1
def gp_F2 (n : Nat) (L M : List Nat) : Prop :=
  gp_poly (gp_C n ++ [(2, 2)]) = some L ∧ gp_val L 1 1 = nI n ∧ gp_val L 1 2 = 2 * (nI n + 1) ∧ gp_flw (gp_C n ++ [(2, 2)]) L (nI 3) = 4 ∧ (∀ q, q < 7 → gp_col (gp_C n ++ [(2, 2)]) L (nI q) = 0) ∧
  gp_poly ((gp_C n ++ [(2, 2)]).eraseIdx 0) = some M ∧ gp_val M 1 1 = 1 ∧ nI (M.count (9 * (n - 1) + 1)) = 1
theorem gp_fc3 : gp_FC 3 [18, 9, 1] := ⟨by decide +kernel, by decide +kernel, by decide +kernel, by decide +kernel, by decide +kernel, by decide +kernel, by decide +kernel, by decide +kernel, by decide +kernel, by decide +kernel⟩
theorem gp_f03 : gp_F0 3 1 [18, 10, 9, 1, 2] [10, 2] := ⟨by decide +kernel, by decide +kernel, by decide +kernel, by decide +kernel, by decide +kernel, by decide +kernel, by decide +kernel, by decide +kernel⟩
theorem gp_f13 : gp_F1 3 [27, 18, 10] := ⟨by decide +kernel, by decide +kernel, by decide +kernel, by decide +kernel, by decide +kernel, by decide +kernel, by decide +kernel⟩
theorem gp_f23 : gp_F2 3 [19, 10, 2] [19] := ⟨by decide +kernel, by decide +kernel, by decide +kernel, by decide +kernel, by decide +kernel, by decide +kernel, by decide +kernel, by decide +kernel⟩
theorem gp_fc4 : gp_FC 4 [27, 18, 9, 1] := ⟨by decide +kernel, by decide +kernel, by decide +kernel, by decide +kernel, by decide +kernel, by decide +kernel, by decide +kernel, by decide +kernel, by decide +kernel, by decide +kernel⟩
theorem gp_f04 : gp_F0 4 2 [27, 18, 10, 18, 9, 1, 10, 2] [18, 10, 10, 2] := ⟨by decide +kernel, by decide +kernel, by decide +kernel, by decide +kernel, by decide +kernel, by decide +kernel, by decide +kernel, by decide +kernel⟩
theorem gp_f14 : gp_F1 4 [36, 27, 18, 10] := ⟨by decide +kernel, by decide +kernel, by decide +kernel, by decide +kernel, by decide +kernel, by decide +kernel, by decide +kernel⟩
theorem gp_f24 : gp_F2 4 [28, 19, 10, 2] [28] := ⟨by decide +kernel, by decide +kernel, by decide +kernel, by decide +kernel, by decide +kernel, by decide +kernel, by decide +kernel, by decide +kernel⟩
theorem gp_fc5 : gp_FC 5 [36, 27, 18, 9, 1] := ⟨by decide +kernel, by decide +kernel, by decide +kernel, by decide +kernel, by decide +kernel, by decide +kernel, by decide +kernel, by decide +kernel, by decide +kernel, by decide +kernel⟩
theorem gp_f05 : gp_F0 5 2 [36, 27, 18, 10, 27, 18, 9, 1, 19, 10, 2] [27, 18, 10, 19, 10, 2] := ⟨by decide +kernel, by decide +kernel, by decide +kernel, by decide +kernel, by decide +kernel, by decide +kernel, by decide +kernel, by decide +kernel⟩
theorem gp_f15 : gp_F1 5 [45, 36, 27, 18, 10] := ⟨by decide +kernel, by decide +kernel, by decide +kernel, by decide +kernel, by decide +kernel, by decide +kernel, by decide +kernel⟩
theorem gp_f25 : gp_F2 5 [37, 28, 19, 10, 2] [37] := ⟨by decide +kernel, by decide +kernel, by decide +kernel, by decide +kernel, by decide +kernel, by decide +kernel, by decide +kernel, by decide +kernel⟩
theorem gp_fc6 : gp_FC 6 [45, 36, 27, 18, 9, 1] := ⟨by decide +kernel, by decide +kernel, by decide +kernel, by decide +kernel, by decide +kernel, by decide +kernel, by decide +kernel, by decide +kernel, by decide +kernel, by decide +kernel⟩
theorem gp_f06 : gp_F0 6 2 [45, 36, 27, 18, 10, 36, 27, 18, 9, 1, 28, 19, 10, 2] [36, 27, 18, 10, 28, 19, 10, 2] := ⟨by decide +kernel, by decide +kernel, by decide +kernel, by decide +kernel, by decide +kernel, by decide +kernel, by decide +kernel, by decide +kernel⟩
theorem gp_f26 : gp_F2 6 [46, 37, 28, 19, 10, 2] [46] := ⟨by decide +kernel, by decide +kernel, by decide +kernel, by decide +kernel, by decide +kernel, by decide +kernel, by decide +kernel, by decide +kernel⟩
theorem gp_fc {n : Nat} (h : 3 ≤ n) (h' : n ≤ 6) : ∃ L, gp_FC n L := by
  rcases (by omega : n = 3 ∨ n = 4 ∨ n = 5 ∨ n = 6) with rfl | rfl | rfl | rfl
  · exact ⟨_, gp_fc3⟩
  · exact ⟨_, gp_fc4⟩
  · exact ⟨_, gp_fc5⟩
  · exact ⟨_, gp_fc6⟩
theorem gp_f0 {n : Nat} (h : 4 ≤ n) (h' : n ≤ 6) : ∃ L M, gp_F0 n 2 L M := by
  rcases (by omega : n = 4 ∨ n = 5 ∨ n = 6) with rfl | rfl | rfl
  · exact ⟨_, _, gp_f04⟩
  · exact ⟨_, _, gp_f05⟩
  · exact ⟨_, _, gp_f06⟩
theorem gp_f1 {n : Nat} (h : 3 ≤ n) (h' : n < 6) : ∃ L, gp_F1 n L := by
  rcases (by omega : n = 3 ∨ n = 4 ∨ n = 5) with rfl | rfl | rfl
  · exact ⟨_, gp_f13⟩
  · exact ⟨_, gp_f14⟩
  · exact ⟨_, gp_f15⟩
theorem gp_f2 {n : Nat} (h : 3 ≤ n) (h' : n ≤ 6) : ∃ L M, gp_F2 n L M := by
  rcases (by omega : n = 3 ∨ n = 4 ∨ n = 5 ∨ n = 6) with rfl | rfl | rfl | rfl
  · exact ⟨_, _, gp_f23⟩
  · exact ⟨_, _, gp_f24⟩
  · exact ⟨_, _, gp_f25⟩
  · exact ⟨_, _, gp_f26⟩
theorem gp_C_len (n : Nat) : (gp_C n).length = n := by rw [gp_C, List.length_map, List.length_range]
end
section
section
variable {post : Int32 → St0 → Prop} {mc ms kc ks : Nat}
theorem gp_696 {E : List (Nat × Nat)} {n : Nat} {pc ec rd wt : Int32} {a1 a2 a3 a4 a5 a6 a7 : Nat → Int32} (H : post 1 ()) (hl : E.length = n) (hK : gp_K E pc ec rd a1 a2 a3) :
    wL_lawOf_696 post mc ms (nI n) kc ks pc ec rd wt a1 a2 a3 a4 a5 a6 a7 := by
  have h8 : E.length ≤ 8 := hK.2.2.1
  unfold wL_lawOf_696
  exact gp_dropBad n rfl (by omega) (by omega) hK (br_t rfl (br_t (by rw [hl]) H))
theorem gp_605 {n q : Nat} {pc ec rd wt : Int32} {a1 a2 a3 a4 a5 a6 a7 : Nat → Int32} (H : post 1 ()) (h3 : 3 ≤ n) (h6 : n ≤ 6) (hq : q < 7) (hK : gp_K (gp_C n) pc ec rd a1 a2 a3) :
    wL_lawOf_605 post mc ms (nI n) (nI q) kc ks pc ec rd wt a1 a2 a3 a4 a5 a6 a7 := by
  have hl := gp_C_len n
  obtain ⟨L, M, f1, f2, f3, f4, f5, f6, f7, f8⟩ := gp_f2 h3 h6
  unfold wL_lawOf_605
  refine gp_add 2 2 2 2 rfl rfl (by omega) (by omega) (Or.inl ⟨rfl, rfl⟩) (by omega) hK (fun b1 b2 hK => br_t (by rw [hl, nI_1]) ?_)
  have hl2 : (gp_C n ++ [(2, 2)]).length = n + 1 := by rw [List.length_append, hl]; rfl
  refine gp_trees hK f1 (fun rd wt b3 b4 b5 b6 b7 hK => br_t f2 ?_)
  refine gp_spanning hK f1 (fun rd wt b3 b4 b5 b6 b7 hK => br_t f3 ?_)
  refine gp_flows 3 rfl (by omega) (by omega) hK f1 (fun rd wt b3 b4 b5 b6 b7 hK => br_t f4 ?_)
  refine gp_colourings hq hK f1 (fun rd wt b3 b4 b5 b6 b7 hK => br_t (f5 q hq) ?_)
  refine gp_drop 0 rfl (by omega) hK (fun b1 b2 hK => br_t (by rw [hl2]; rfl) ?_)
  refine gp_trees hK f6 (fun rd wt b3 b4 b5 b6 b7 hK => br_t f7 ?_)
  refine gp_coef (n - 1) 1 (pk_sub (b := 1) (by omega)) rfl (by omega) (by omega) hK f6 (fun rd wt b3 b4 b5 b6 b7 hK => br_t f8 ?_)
  exact gp_696 H (by rw [List.length_eraseIdx_of_lt (by omega), hl2]; rfl) hK
theorem gp_391 {n : Nat} {p : Int32} {L M : List Nat} {pc ec rd wt : Int32} {a1 a2 a3 a4 a5 a6 a7 : Nat → Int32} (H : post 1 ()) (h3 : 3 ≤ n) (h6 : n ≤ 6) (F : gp_F0 n p L M) (hK : gp_K (gp_C n ++ [(0, 2)]) pc ec rd a1 a2 a3) :
    wL_lawOf_391 post mc ms (nI n) p kc ks pc ec rd wt a1 a2 a3 a4 a5 a6 a7 := by
  have hl := gp_C_len n
  obtain ⟨f1, f2, f3, f4, f5, f6, f7, f8⟩ := F
  have hl2 : (gp_C n ++ [(0, 2)]).length = n + 1 := by rw [List.length_append, hl]; rfl
  unfold wL_lawOf_391
  refine nm_e ?_
  refine gp_trees hK f1 (fun rd wt b3 b4 b5 b6 b7 hK => br_t f2 ?_)
  refine gp_flows 2 rfl (by omega) (by omega) hK f1 (fun rd wt b3 b4 b5 b6 b7 hK => br_t f3 ?_)
  refine gp_flows 3 rfl (by omega) (by omega) hK f1 (fun rd wt b3 b4 b5 b6 b7 hK => br_t f4 ?_)
  refine gp_merge n rfl (by omega) hK (fun b1 b2 hK => br_t (by rw [hl2]; rfl) ?_)
  refine gp_trees hK f5 (fun rd wt b3 b4 b5 b6 b7 hK => br_t f6 ?_)
  refine gp_partsK hK (br_t f7 ?_)
  exact gp_696 H f8 hK
theorem gp_547 {n q : Nat} {L : List Nat} {z0 z1 z2 : Int32} {pc ec rd wt : Int32} {a1 a2 a3 a4 a5 a6 a7 : Nat → Int32} (H : post 1 ()) (h3 : 3 ≤ n) (h6 : n ≤ 6) (hz : ¬ z0 = 0) (hz2 : z2 = (z1 / z0) * (nI q - 1)) (F : gp_F1 n L) (hK : gp_K (gp_C n ++ [(1, n)]) pc ec rd a1 a2 a3) :
    wL_lawOf_547 post mc ms (nI n) (nI q) z0 z1 z2 kc ks pc ec rd wt a1 a2 a3 a4 a5 a6 a7 := by
  have hl := gp_C_len n
  obtain ⟨f1, f2, f3, f4, f5, f6, f7⟩ := F
  have hl2 : (gp_C n ++ [(1, n)]).length = n + 1 := by rw [List.length_append, hl]; rfl
  unfold wL_lawOf_547
  refine ⟨hz, br_t hz2 ?_⟩
  refine gp_flows 4 rfl (by omega) (by omega) hK f1 (fun rd wt b3 b4 b5 b6 b7 hK => br_t f5 ?_)
  refine gp_acyclic hK f1 (fun rd wt b3 b4 b5 b6 b7 hK => br_t f6 ?_)
  refine gp_coef 2 0 rfl rfl (by omega) (by omega) hK f1 (fun rd wt b3 b4 b5 b6 b7 hK => br_t f7 ?_)
  refine gp_drop n rfl (by omega) hK (fun b1 b2 hK => br_t (by rw [hl2]; rfl) ?_)
  exact gp_696 H (by rw [List.length_eraseIdx_of_lt (by omega), hl2]; rfl) hK
theorem gp_302 {n q c : Nat} {L : List Nat} {x9 x10 : Int32} {rd wt : Int32} {a1 a2 a3 a4 a5 a6 a7 : Nat → Int32} (H : post 1 ()) (h3 : 3 ≤ n) (h6 : n ≤ 6) (hq : q < 7) (hc : c < 3) (F : gp_FC n L) (h9 : x9 * x10 = gp_cir n (nI q) * gp_fr (nI q) (6 - n) 3)
    (hK : gp_K (gp_C n) 6 (nI (gp_C n).length) rd a1 a2 a3) :
    ∃ fu, wL_lawOf_302 post mc ms (nI n) (nI c) (nI q) x9 x10 kc ks fu 1 6 (nI (gp_C n).length) rd wt a1 a2 a3 a4 a5 a6 a7 := by
  have hl := gp_C_len n
  obtain ⟨f1, _, _, _, _, _, _, _, f9, f10⟩ := F
  refine pk_loop (σ := Int32 × Int32 × (Nat → Int32) × (Nat → Int32) × (Nat → Int32) × (Nat → Int32) × (Nat → Int32))
    (fun fu i s => wL_lawOf_302 post mc ms (nI n) (nI c) (nI q) x9 x10 kc ks fu (nI i) 6 (nI (gp_C n).length) s.1 s.2.1 a1 a2 s.2.2.1 s.2.2.2.1 s.2.2.2.2.1 s.2.2.2.2.2.1 s.2.2.2.2.2.2)
    (fun i s => 1 ≤ i ∧ gp_K (gp_C n) 6 (nI (gp_C n).length) s.1 a1 a2 s.2.2.1) 9 1 (rd, wt, a3, a4, a5, a6, a7) (by omega) ⟨Nat.le_refl 1, hK⟩ (fun fu s h => ?_) (fun fu i s hi h hw => ?_)
  · obtain ⟨rd, wt, a3, a4, a5, a6, a7⟩ := s
    obtain ⟨_, hK⟩ := h
    refine pk_le 9 9 (fun _ => ?_) (fun z => absurd z (by omega))
    refine pk_eq c 0 (fun z => ?_) (fun z => pk_eq c 1 (fun z1 => pk_le 6 n (fun _ => gp_605 H h3 h6 hq hK) (fun hn => ?_)) (fun _ => gp_605 H h3 h6 hq hK))
    · refine gp_add 0 2 0 2 rfl rfl (by omega) (by omega) (Or.inl ⟨rfl, rfl⟩) (by omega) hK (fun b1 b2 hK => br_t (by rw [hl, nI_1]) ?_)
      refine pk_eq n 3 (fun e => ?_) (fun e => ?_)
      · subst e
        exact gp_391 H h3 h6 gp_f03 hK
      · obtain ⟨L0, M0, F0⟩ := gp_f0 (show 4 ≤ n by omega) h6
        exact gp_391 H h3 h6 F0 hK
    · obtain ⟨L1, F1⟩ := gp_f1 h3 hn
      have F1' := F1
      obtain ⟨g1, g2, g3, g4, g5, g6, g7⟩ := F1
      refine gp_add 1 n 1 n rfl rfl (by omega) hn (Or.inl ⟨rfl, rfl⟩) (by omega) hK (fun b1 b2 hK => br_t (by rw [hl, nI_1]) ?_)
      refine gp_trees hK g1 (fun rd wt b3 b4 b5 b6 b7 hK => br_t g2 ?_)
      refine gp_forests hK g1 (fun rd wt b3 b4 b5 b6 b7 hK => br_t g3 ?_)
      refine gp_colourings hq hK g1 (fun rd wt b3 b4 b5 b6 b7 hK => ?_)
      have g4' := g4 q hq
      rw [← h9] at g4'
      refine pk_eq q 0 (fun e => ?_) (fun e => ?_)
      · rw [if_pos e] at g4'
        exact gp_547 H h3 h6 (by decide) g4' F1' hK
      · rw [if_neg e] at g4'
        exact gp_547 H h3 h6 (nI_ne0 (by omega) (by omega)) g4' F1' hK
  · obtain ⟨rd, wt, a3, a4, a5, a6, a7⟩ := s
    obtain ⟨h1, hK⟩ := h
    refine pk_le 9 i (fun z => absurd z (by omega)) (fun _ => ?_)
    refine gp_coef i 0 rfl rfl (by omega) (by omega) hK f1 (fun rd wt b3 b4 b5 b6 b7 hK => ?_)
    have f9' := f9 i hi h1
    have f10' := f10 i hi h1
    have key : ∀ z : Int32, nI (L.count (9 * i + 0)) = z → wL_lawOf_328 post mc ms (wL_lawOf_302 post mc ms (nI n) (nI c) (nI q) x9 x10 kc ks fu) (nI n) (nI c) (nI q) x9 x10 (nI i) z (nI (L.count (9 * i + 0))) kc ks 6 (nI (gp_C n).length) rd wt a1 a2 b3 b4 b5 b6 b7 := by
      intro z ez
      unfold wL_lawOf_328
      refine br_t ez ?_
      refine gp_coef 0 i rfl rfl (by omega) (by omega) hK f1 (fun rd wt b3 b4 b5 b6 b7 hK => ?_)
      refine pk_eq i 1 (fun e => ?_) (fun e => ?_)
      · rw [if_pos e] at f10'
        exact br_t f10' (nm_r (nI_1 i) (hw (rd, wt, b3, b4, b5, b6, b7) ⟨by omega, hK⟩))
      · rw [if_neg e] at f10'
        exact br_t f10' (nm_r (nI_1 i) (hw (rd, wt, b3, b4, b5, b6, b7) ⟨by omega, hK⟩))
    refine pk_le n i (fun e => ?_) (fun e => ?_)
    · rw [if_pos e] at f9'
      exact key 0 f9'
    · rw [if_neg (by omega)] at f9'
      exact key 1 f9'
theorem gp_180 {n q c : Nat} {p1 : Int32} {pc ec rd wt : Int32} {a1 a2 a3 a4 a5 a6 a7 : Nat → Int32} (H : post 1 ()) (h3 : 3 ≤ n) (h6 : n ≤ 6) (hq : q < 7) (hc : c < 3) (hK : gp_K (gp_C n) pc ec rd a1 a2 a3) :
    ∃ fu, wL_lawOf_180 post mc ms p1 (nI n) (nI c) (nI q) (nI (6 - n)) (gp_cir n (nI q)) kc ks pc ec rd wt a1 a2 a3 a4 a5 a6 a7 fu 1 0 := by
  obtain ⟨L, F⟩ := gp_fc h3 h6
  have F' := F
  obtain ⟨f1, f2, f3, f4, f5, f6, f7, f8, f9, f10⟩ := F
  obtain ⟨r, hr, er⟩ := pk_andE p1 (m := 3) 2 (by decide)
  refine pk_loop (σ := Unit) (fun fu i _ => wL_lawOf_180 post mc ms p1 (nI n) (nI c) (nI q) (nI (6 - n)) (gp_cir n (nI q)) kc ks pc ec rd wt a1 a2 a3 a4 a5 a6 a7 fu (gp_fr (nI q) (6 - n) i) (nI i)) (fun _ _ => True) 3 0 () (by omega) trivial
    (fun fu _ _ => pk_le 3 3 (fun _ => ?_) (fun z => absurd z (by omega))) (fun fu i _ hi _ hw => ?_)
  · refine gp_trees hK f1 (fun rd wt b3 b4 b5 b6 b7 hK => br_t f2 ?_)
    refine gp_forests hK f1 (fun rd wt b3 b4 b5 b6 b7 hK => br_t f3 ?_)
    refine gp_spanning hK f1 (fun rd wt b3 b4 b5 b6 b7 hK => br_t f4 ?_)
    refine gp_partsK hK (br_t f5 ?_)
    refine gp_colourings hq hK f1 (fun rd wt b3 b4 b5 b6 b7 hK => br_t (f6 q hq) ?_)
    refine gp_acyclic hK f1 (fun rd wt b3 b4 b5 b6 b7 hK => br_t f7 ?_)
    refine gp_flows (1 + r) (by rw [er]; exact nI_add 1 r) (by omega) (by omega) hK f1 (fun rd wt b3 b4 b5 b6 b7 hK => br_t (by rw [er]; exact f8 r hr) ?_)
    exact gp_302 H h3 h6 hq hc F' rfl hK
  · have hw' := hw () trivial
    refine pk_le 3 i (fun z => absurd z (by omega)) (fun _ => pk_le (6 - n) i (fun z => ?_) (fun z => ?_))
    · have e : gp_fr (nI q) (6 - n) (i + 1) = gp_fr (nI q) (6 - n) i := by
        show (if 6 - n ≤ i then _ else _) = _
        rw [if_pos z]
      rw [e] at hw'
      exact nm_r (nI_1 i) hw'
    · have e : gp_fr (nI q) (6 - n) (i + 1) = gp_fr (nI q) (6 - n) i * nI q := by
        show (if 6 - n ≤ i then _ else _) = _
        rw [if_neg (by omega)]
      rw [e] at hw'
      exact nm_e (nm_r (nI_1 i) hw')
theorem gp_128 {n q c : Nat} {p1 : Int32} {pc ec rd wt : Int32} {a1 a2 a3 a4 a5 a6 a7 : Nat → Int32} (H : post 1 ()) (h3 : 3 ≤ n) (h6 : n ≤ 6) (hq : q < 7) (hc : c < 3) (hK : gp_K (gp_C n) pc ec rd a1 a2 a3) :
    ∃ fu, wL_lawOf_128 post mc ms p1 (nI n) (nI c) (nI q) (nI (6 - n)) kc ks pc ec rd wt a1 a2 a3 a4 a5 a6 a7 fu 1 0 := by
  have G := gp_180 (mc := mc) (ms := ms) (kc := kc) (ks := ks) (wt := wt) (p1 := p1) (a4 := a4) (a5 := a5) (a6 := a6) (a7 := a7) H h3 h6 hq hc hK
  refine pk_loop (σ := Unit) (fun fu i _ => wL_lawOf_128 post mc ms p1 (nI n) (nI c) (nI q) (nI (6 - n)) kc ks pc ec rd wt a1 a2 a3 a4 a5 a6 a7 fu (gp_pw 1 (nI q - 1) i) (nI i)) (fun _ _ => True) n 0 () (by omega) trivial
    (fun fu _ _ => pk_le n n (fun _ => br_c (fun z => nm_r ?_ G) (fun z => nm_r ?_ G)) (fun z => absurd z (by omega)))
    (fun fu i _ hi _ hw => pk_le n i (fun z => absurd z (by omega)) (fun _ => nm_e (nm_r (nI_1 i) (hw () trivial))))
  · unfold gp_cir
    rw [if_pos z]
  · unfold gp_cir
    rw [if_neg z]
def gp_Cp (n i : Nat) : List (Nat × Nat) := (List.range i).map (fun u => (u, (u + 1) % n))
theorem gp_Cp_len (n i : Nat) : (gp_Cp n i).length = i := by rw [gp_Cp, List.length_map, List.length_range]
theorem gp_Cp_s (n i : Nat) : gp_Cp n (i + 1) = gp_Cp n i ++ [(i, (i + 1) % n)] := by
  unfold gp_Cp
  rw [List.range_succ, List.map_append]
  rfl
theorem gp_31 {n c : Nat} {p1 p2 : Int32} {wt : Int32} {a1 a2 a3 a4 a5 a6 a7 : Nat → Int32} (H : post 1 ()) (h3 : 3 ≤ n) (h6 : n ≤ 6) (hc : c < 3) :
    ∃ fu, wL_lawOf_31 post mc ms p1 p2 (nI n) (nI c) kc ks fu 0 6 0 0 wt a1 a2 a3 a4 a5 a6 a7 := by
  obtain ⟨b, hb, eb⟩ := pk_andE p1 (m := 255) 8 (by decide)
  refine pk_loop (σ := (Nat → Int32) × (Nat → Int32)) (fun fu i s => wL_lawOf_31 post mc ms p1 p2 (nI n) (nI c) kc ks fu (nI i) 6 (nI i) 0 wt s.1 s.2 a3 a4 a5 a6 a7) (fun i s => gp_K (gp_Cp n i) 6 (nI i) 0 s.1 s.2 a3) n 0 (a1, a2) (by omega)
    ⟨rfl, rfl, Nat.zero_le 8, fun e U V he => absurd he (fun z => nomatch z), Or.inl rfl⟩ (fun fu s hK => ?_) (fun fu i s hi hK hw => ?_)
  · refine pk_le n n (fun _ => ⟨by decide, ?_⟩) (fun z => absurd z (by omega))
    refine nm_r (e' := nI (b % 7)) (by rw [eb]; exact pk_rem (d := 7) (by omega) (by omega) (by omega)) (nm_r (e' := nI (6 - n)) (pk_sub (a := 6) h6) ?_)
    exact gp_128 H h3 h6 (Nat.mod_lt _ (by decide)) hc hK
  · obtain ⟨b1, b2⟩ := s
    have hl := gp_Cp_len n i
    have hv : (i + 1) % n < n := Nat.mod_lt _ (by omega)
    have step : ∀ u v, (u = i ∧ v = (i + 1) % n) ∨ (u = (i + 1) % n ∧ v = i) → wL_lawOf_88 post mc ms (wL_lawOf_31 post mc ms p1 p2 (nI n) (nI c) kc ks fu) p1 p2 (nI n) (nI c) (nI i) (nI v) (nI u) kc ks 6 (nI i) 0 wt b1 b2 a3 a4 a5 a6 a7 := by
      intro u v hs
      unfold wL_lawOf_88
      refine gp_add u v i ((i + 1) % n) rfl rfl (by omega) (by omega) hs (by omega) hK (fun c1 c2 hK' => ?_)
      rw [← gp_Cp_s, hl] at hK'
      rw [hl]
      exact br_t (nI_1 i).symm (nm_r (nI_1 i) (hw (c1, c2) hK'))
    refine pk_le n i (fun z => absurd z (by omega)) (fun _ => ⟨nI_ne0 (by omega) (by omega), nm_r (e' := nI ((i + 1) % n)) (by rw [nI_1]; exact pk_rem (by omega) (by omega) (by omega)) ?_⟩)
    exact br_c (fun _ => br_f (by decide) (br_f (by decide) (step _ _ (Or.inr ⟨rfl, rfl⟩)))) (fun _ => br_t rfl (br_t rfl (step _ _ (Or.inl ⟨rfl, rfl⟩))))
theorem gp_lawOf {p0 p1 p2 : Int32} (H : post 1 ()) (hmc : 8 ≤ mc) (hms : 156 ≤ ms) : wpL_lawOf post mc ms () p0 p1 p2 := by
  obtain ⟨j, hj, ej⟩ := pk_andE p0 (m := 3) 2 (by decide)
  obtain ⟨b, hb, eb⟩ := pk_andE (p0 >>> ((2 : Int32) &&& 31)) (m := 255) 8 (by decide)
  unfold wpL_lawOf
  refine nm_r (e' := nI (3 + j)) (by rw [ej]; exact nI_add 3 j) ⟨by decide, nm_r (e' := nI (b % 3)) (by rw [eb]; exact pk_rem (d := 3) (by omega) (by omega) (by omega)) ⟨by omega, by omega, 7, 145, by omega, by omega, ?_⟩⟩
  unfold wpX_init
  refine ⟨by omega, by omega, by omega, by omega, by omega, by omega, by omega, by omega, by omega, by omega, by omega, by omega, by omega, by omega, br_t (by decide) (br_t (by decide) ?_)⟩
  exact gp_31 H (by omega) (by omega) (Nat.mod_lt _ (by decide))
end
theorem gp_cell {post : Int32 → Prop} {L : Nat} {xs : Nat → Int32} (hL : L ≤ 3) (i : Nat) {p : Int32} (hp : p = nI i) (hi : i < 3) (H : ∀ r, post r) : wpL_cellAt post L xs () p := by
  subst hp
  unfold wpL_cellAt
  exact pk_le L i (fun _ => H _) (fun h => ⟨pk_in i L h, H _⟩)
theorem i_vc (xs : Nat → Int32) (L : Nat) (hL : L ≤ 3) : wpL_law (fun r => r = 1) L xs := by
  unfold wpL_law
  exact gp_cell hL 0 rfl (by decide) (fun r1 => gp_cell hL 1 rfl (by decide) (fun r2 => gp_cell hL 2 rfl (by decide) (fun r3 => ⟨600000, 7302250, by omega, by omega, gp_lawOf rfl (by omega) (by omega)⟩)))
end
