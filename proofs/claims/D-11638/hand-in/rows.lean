section
/-! ===== 1. numbers, and the small methods ===== -/
theorem qd_ne {x y z : Int32} (h : x = y) (hn : y ≠ z) : ¬ x = z := fun e => hn (h.symm.trans e)
theorem qd_b : ∀ t, t < 127 → (nI t + 1).toInt8.toInt32 = nI (t + 1) := by decide +kernel
theorem qd_b8 : ∀ t, t < 128 → (nI t).toInt8.toInt32 = nI t := by decide +kernel
theorem qd_z6 (t : Nat) : 6 * (0 : Int32) + nI t = nI t := by
  rw [show 6 * (0 : Int32) = 0 by decide, Int32.zero_add]
theorem qd_fill {s : Nat → Int32} {i k : Nat} (hk : k = i) (h : ∀ j, j < i → s j = 0) : ∀ j, j < i + 1 → upd s k 0 j = 0 := by
  intro j hj
  rw [hk]
  by_cases e : j = i
  · rw [e, pk_us]
  · rw [pk_un e]
    exact h j (by omega)
/-- a short, held in an int -/
def qd_sh (x : Int32) : Prop := -32768 ≤ x.toInt ∧ x.toInt ≤ 32767
theorem qd_sh0 : qd_sh 0 := by unfold qd_sh; decide
theorem qd_sh16 (w : Int16) : qd_sh w.toInt32 := by
  unfold qd_sh
  rw [Int16.toInt_toInt32]
  have h1 := w.toInt_lt
  have h2 := w.le_toInt
  omega
theorem qd_shL {x : Int32} (h : qd_sh x) : ¬ x < -32768 := by
  rw [Int32.lt_iff_toInt_lt, show (-32768 : Int32).toInt = -32768 by decide]
  have := h.1
  omega
theorem qd_shU {x : Int32} (h : qd_sh x) : x ≤ 32767 := by
  rw [Int32.le_iff_toInt_le, show (32767 : Int32).toInt = 32767 by decide]
  exact h.2
theorem qd_shL6 {x : Int32} (h : qd_sh x) : -32768 ≤ x.toInt64 := by
  rw [Int64.le_iff_toInt_le, Int32.toInt_toInt64, show (-32768 : Int64).toInt = -32768 by decide]
  exact h.1
theorem qd_shU6 {x : Int32} (h : qd_sh x) : x.toInt64 ≤ 32767 := by
  rw [Int64.le_iff_toInt_le, Int32.toInt_toInt64, show (32767 : Int64).toInt = 32767 by decide]
  exact h.2
theorem qd_add3 {a b c : Int32} (ha : qd_sh a) (hb : qd_sh b) (hc : qd_sh c) : (a + b + c).toInt64 = a.toInt64 + b.toInt64 + c.toInt64 := by
  apply Int64.toInt.inj
  have a1 := ha.1
  have a2 := ha.2
  have b1 := hb.1
  have b2 := hb.2
  have c1 := hc.1
  have c2 := hc.2
  rw [Int32.toInt_toInt64, Int32.toInt_add, Int32.toInt_add, Int64.toInt_add, Int64.toInt_add, Int32.toInt_toInt64, Int32.toInt_toInt64, Int32.toInt_toInt64]
  generalize a.toInt = x at *
  generalize b.toInt = y at *
  generalize c.toInt = z at *
  rw [Int.bmod_eq_of_le (n := x + y) (m := 2 ^ 32) (by omega) (by omega), Int.bmod_eq_of_le (n := x + y) (m := 2 ^ 64) (by omega) (by omega), Int.bmod_eq_of_le (n := x + y + z) (m := 2 ^ 32) (by omega) (by omega), Int.bmod_eq_of_le (n := x + y + z) (m := 2 ^ 64) (by omega) (by omega)]
/-- what is fed again and again: one product -/
theorem qd_dist {a b c p : Int32} (ha : qd_sh a) (hb : qd_sh b) (hc : qd_sh c) : a.toInt64 * p.toInt64 + b.toInt64 * p.toInt64 + c.toInt64 * p.toInt64 = p.toInt64 * (a + b + c).toInt64 := by
  rw [qd_add3 ha hb hc]
  grind
/-- saturation, and the rounding of a sum -/
def qd_sat (v : Int64) : Int64 := if v ≤ 32767 then (if -32768 ≤ v then v else -32768) else 32767
def qd_rd (s : Int64) : Int32 := (qd_sat ((s + 16384) >>> ((15 : Int32).toInt64 &&& 63))).toInt32
theorem qd_satS {x : Int32} (h : qd_sh x) : (qd_sat x.toInt64).toInt32 = x := by
  unfold qd_sat
  rw [if_pos (qd_shU6 h), if_pos (qd_shL6 h), Int32.toInt32_toInt64]
section
variable {nc cp sd pl ce hd sc : Int32} {ac : Int64} {a1 a2 a3 a4 a5 a6 a7 a8 a9 a10 a11 : Nat → Int32}
theorem qd_saturated {post : Int64 → Prop} {v : Int64} (H : post (qd_sat v)) : wpX_saturated post (nc, cp, sd, pl, ce, hd, ac, sc, a1, a2, a3, a4, a5, a6, a7, a8, a9, a10, a11) v := by
  unfold qd_sat at H
  refine br_c (fun h => br_c (fun h2 => ?_) (fun h2 => ?_)) (fun h => ?_)
  · rw [if_pos h, if_pos h2] at H
    exact H
  · rw [if_pos h, if_neg h2] at H
    exact H
  · rw [if_neg h] at H
    exact H
theorem qd_round {post : Int32 → Prop} {s : Int64} (H : post (qd_rd s)) : wpL_round post () s := by
  unfold qd_rd qd_sat at H
  refine nm_e (br_c (fun h => br_c (fun h2 => ?_) (fun h2 => ?_)) (fun h => ?_))
  · rw [if_pos h, if_pos h2] at H
    exact H
  · rw [if_pos h, if_neg h2, show (-32768 : Int64).toInt32 = -32768 by decide] at H
    exact H
  · rw [if_neg h, show (32767 : Int64).toInt32 = 32767 by decide] at H
    exact H
theorem qd_restart {post : St2 → Prop} (H : ∀ c : Nat → Int32, (∀ j, j < 42 → c j = 0) → post (nc, cp, sd, pl, ce, hd, ac, 0, a1, a2, a3, a4, a5, a6, a7, a8, a9, a10, c)) : wpX_restart post (nc, cp, sd, pl, ce, hd, ac, sc, a1, a2, a3, a4, a5, a6, a7, a8, a9, a10, a11) :=
  pk_loop (fun n i s => wX_restart_2 post nc cp sd pl ce hd ac sc n (nI i) a1 a2 a3 a4 a5 a6 a7 a8 a9 a10 s) (fun i s => ∀ j, j < i → s j = 0) 42 0 a11 (by omega) (fun j hj => absurd hj (by omega))
    (fun n s h => pk_le 42 42 (fun _ => H s h) (fun z => absurd z (by omega)))
    (fun n i s hi h hw => pk_le 42 i (fun z => absurd z (by omega)) (fun _ => ⟨pk_in i 42 (by omega), nm_e (nm_r (nI_1 i) (hw _ (qd_fill (nI_clamp (by omega)) h)))⟩))
theorem qd_isNumber {post : Int32 → Prop} {a : Nat} (ha : a < 20) (H : post 1) : wpX_isNumber post (nc, cp, sd, pl, ce, hd, ac, sc, a1, a2, a3, a4, a5, a6, a7, a8, a9, a10, a11) (nI a) :=
  br_f (nI_pos (by omega)) (br_f (nI_nlt (a := 19) (by omega) (by omega)) H)
theorem qd_value {post : Int32 → Prop} {i : Nat} (hi : i < 4) (hs : ¬ sc = 0) (H : post (a11 i)) : wpX_value post (4, cp, sd, pl, ce, hd, ac, sc, a1, a2, a3, a4, a5, a6, a7, a8, a9, a10, a11) (nI i) := by
  refine br_f (nI_pos (by omega)) (br_f (nI_ge (b := 4) hi (by omega)) (br_f hs ⟨pk_in i 42 (by omega), ?_⟩))
  rw [nI_clamp (by omega)]
  exact H
/-- a value is 0 where no sample was fed -/
theorem qd_value0 {post : Int32 → Prop} {i : Nat} (hi : i < 4) (H : post 0) : wpX_value post (4, cp, sd, pl, ce, hd, ac, 0, a1, a2, a3, a4, a5, a6, a7, a8, a9, a10, a11) (nI i) :=
  br_f (nI_pos (by omega)) (br_f (nI_ge (b := 4) hi (by omega)) (br_t rfl H))
end
end
section
/-! ===== 2. the source: node, tap ===== -/
section
variable {nc cp sd pl ce hd sc : Int32} {ac : Int64} {a1 a2 a3 a4 a5 a6 a7 a8 a9 a10 a11 : Nat → Int32}
theorem qd_n122 {post : Int32 → St2 → Prop} {x1 x2 x3 : Int32} {k : Nat} (hk : k < 20) (H : ∀ c : Nat → Int32, (∀ j, j < 42 → c j = 0) → post (nI k) (nI (k + 1), 0, sd, pl, ce, hd, ac, 0, upd a1 k x1.toInt8.toInt32, upd a2 k x2, upd a3 k x3.toInt8.toInt32, upd a4 k 0, a5, a6, a7, a8, a9, a10, c)) : wX_node_122 post x1 x2 x3 (nI k) cp sd pl ce hd ac sc a1 a2 a3 a4 a5 a6 a7 a8 a9 a10 a11 := by
  have e : (nI k).toNatClampNeg = k := nI_clamp (by omega)
  unfold wX_node_122
  rw [e]
  exact ⟨pk_in k 20 hk, nm_e ⟨pk_in k 20 hk, nm_e ⟨pk_in k 20 hk, nm_e ⟨pk_in k 20 hk, nm_e (nm_r (nI_1 k) (qd_restart H))⟩⟩⟩⟩
/-- node(SUM, 0, 0) -/
theorem qd_node10 {post : Int32 → St2 → Prop} {k : Nat} (hk : k < 20) (H : ∀ c : Nat → Int32, (∀ j, j < 42 → c j = 0) → post (nI k) (nI (k + 1), 0, sd, pl, ce, hd, ac, 0, upd a1 k 10, upd a2 k 0, upd a3 k 0, upd a4 k 0, a5, a6, a7, a8, a9, a10, c)) : wpX_node post (nI k, cp, sd, pl, ce, hd, ac, sc, a1, a2, a3, a4, a5, a6, a7, a8, a9, a10, a11) 10 0 0 :=
  br_t (nI_lt (b := 20) hk (by omega)) (br_f (by decide) (br_t (by decide) (br_f (by decide) (br_f (by decide) (br_t (by decide) (br_f (by decide) (br_t (by decide) (br_f (by decide) (br_f (by decide) (qd_n122 hk H))))))))))
/-- node(INPUT, 0, 0) -/
theorem qd_node0 {post : Int32 → St2 → Prop} {k : Nat} (hk : k < 20) (H : ∀ c : Nat → Int32, (∀ j, j < 42 → c j = 0) → post (nI k) (nI (k + 1), 0, sd, pl, ce, hd, ac, 0, upd a1 k 0, upd a2 k 0, upd a3 k 0, upd a4 k 0, a5, a6, a7, a8, a9, a10, c)) : wpX_node post (nI k, cp, sd, pl, ce, hd, ac, sc, a1, a2, a3, a4, a5, a6, a7, a8, a9, a10, a11) 0 0 0 :=
  br_t (nI_lt (b := 20) hk (by omega)) (br_f (by decide) (br_t (by decide) (br_f (by decide) (br_t (by decide) (br_t (by decide) (br_f (by decide) (br_f (by decide) (qd_n122 hk H))))))))
/-- node(DELAY, a, 0) -/
theorem qd_node2 {post : Int32 → St2 → Prop} {k a : Nat} (hk : k < 20) (ha : a < 20) (H : ∀ c : Nat → Int32, (∀ j, j < 42 → c j = 0) → post (nI k) (nI (k + 1), 0, sd, pl, ce, hd, ac, 0, upd a1 k 2, upd a2 k (nI a), upd a3 k 0, upd a4 k 0, a5, a6, a7, a8, a9, a10, c)) : wpX_node post (nI k, cp, sd, pl, ce, hd, ac, sc, a1, a2, a3, a4, a5, a6, a7, a8, a9, a10, a11) 2 (nI a) 0 :=
  br_t (nI_lt (b := 20) hk (by omega)) (br_f (by decide) (br_t (by decide) (br_f (by decide) (br_f (by decide) (br_f (by decide) (qd_isNumber ha (br_f (by decide) (br_t (by decide) (br_f (by decide) (br_f (by decide) (qd_n122 hk H)))))))))))
/-- tap(0, a, w) -/
theorem qd_tap {post : Int32 → St2 → Prop} {N t a : Nat} {w : Int32} (hN : 0 < N) (hN2 : N ≤ 20) (ha : a < 20) (hw : qd_sh w) (hk : a1 0 = 10) (ht : a4 0 = nI t) (h6 : t < 6) (H : ∀ c : Nat → Int32, (∀ j, j < 42 → c j = 0) → post (nI (t + 1)) (nI N, 0, sd, pl, ce, hd, ac, 0, a1, a2, a3, upd a4 0 (nI (t + 1)), upd a5 t (nI a), upd a6 t w, a7, a8, a9, a10, c)) : wpX_tap post (nI N, cp, sd, pl, ce, hd, ac, sc, a1, a2, a3, a4, a5, a6, a7, a8, a9, a10, a11) 0 (nI a) w := by
  have e0 : (0 : Int32).toNatClampNeg = 0 := sb_cl0
  have et : (nI t).toNatClampNeg = t := nI_clamp (by omega)
  refine br_f (by decide) (br_f (nI_ge hN (by omega)) ⟨pk_in 0 20 (by decide), br_t hk ?_⟩)
  refine qd_isNumber ha (br_f (by decide) (br_f (qd_shL hw) (br_t (qd_shU hw) ⟨pk_in 0 20 (by decide), ?_⟩)))
  rw [e0, ht]
  refine br_t (nI_lt (b := 6) h6 (by omega)) ⟨pk_in 0 20 (by decide), nm_r (qd_z6 t) ⟨pk_in t 120 (by omega), ?_⟩⟩
  rw [et, qd_b8 a (by omega), qd_b t (by omega)]
  refine nm_e ⟨pk_in t 120 (by omega), nm_e ⟨pk_in 0 20 (by decide), pk_in 0 20 (by decide), nm_e (qd_restart (fun c hc => ⟨pk_in 0 20 (by decide), ?_⟩))⟩⟩
  show post (upd a4 0 (nI (t + 1)) 0) _
  rw [pk_us]
  exact H c hc
end
end
section
/-! ===== 3. ordering: namedBy, orderNodes ===== -/
/-- the source's picture: a sum of t taps (their nodes 1, 2, 3, 0), an input, two delays -/
def qd_src (t : Nat) (a1 a2 a4 a5 : Nat → Int32) : Prop := a1 0 = 10 ∧ a1 1 = 0 ∧ a1 2 = 2 ∧ a1 3 = 2 ∧ a2 0 = 0 ∧ a2 1 = 0 ∧ a2 2 = 1 ∧ a2 3 = 2 ∧ a4 0 = nI t ∧ (∀ i, i < t → a5 i = nI ((i + 1) % 4))
/-- a set without the delays and the absent nodes, up to i -/
def qd_m (x : Int32) : Nat → Int32
  | 0 => x
  | i + 1 => if i < 2 then qd_m x i else qd_m x i &&& (((1 : Int32) <<< (nI i &&& 31)) ^^^ (-1))
/-- the set of the first i taps -/
def qd_o : Nat → Int32
  | 0 => 0
  | i + 1 => qd_o i ||| ((1 : Int32) <<< (nI ((i + 1) % 4) &&& 31))
theorem qd_m0 : qd_m 0 20 = 0 := by decide +kernel
theorem qd_m3 : qd_m (qd_o 3) 20 = 2 := by decide +kernel
theorem qd_m4 : qd_m (qd_o 4) 20 = 3 := by decide +kernel
theorem qd_mA (x : Int32) {i : Nat} (h : i < 2) : qd_m x (i + 1) = qd_m x i := if_pos h
theorem qd_mB (x : Int32) {i : Nat} (h : ¬ i < 2) : qd_m x (i + 1) = qd_m x i &&& (((1 : Int32) <<< (nI i &&& 31)) ^^^ (-1)) := if_neg h
section
variable {nc cp sd pl ce hd sc : Int32} {ac : Int64} {a1 a2 a3 a4 a5 a6 a7 a8 a9 a10 a11 : Nat → Int32}
theorem qd_98 {post : Int32 → Prop} {x : Int32} (k0 : a1 0 = 10) (k1 : a1 1 = 0) (k2 : a1 2 = 2) (k3 : a1 3 = 2) (H : post (qd_m x 20)) : ∃ n, wX_namedBy_98 post 4 cp sd pl ce hd ac sc a1 a2 a3 a4 a5 a6 a7 a8 a9 a10 a11 n x 0 := by
  refine pk_loop (fun n i s => wX_namedBy_98 post 4 cp sd pl ce hd ac sc a1 a2 a3 a4 a5 a6 a7 a8 a9 a10 a11 n s (nI i)) (fun i s => s = qd_m x i) 20 0 x (by omega) rfl ?_ ?_
  · intro n s h
    exact pk_le 20 20 (fun _ => by rw [h]; exact H) (fun z => absurd z (by omega))
  · intro n i s hi h hw
    refine pk_le 20 i (fun z => absurd z (by omega)) (fun _ => pk_le 4 i (fun g => nm_e (nm_r (nI_1 i) (hw _ (by rw [h, qd_mB x (by omega)])))) (fun g => ⟨pk_in i 20 hi, ?_⟩))
    have hc : i = 0 ∨ i = 1 ∨ i = 2 ∨ i = 3 := by omega
    rcases hc with rfl | rfl | rfl | rfl
    · exact br_f (qd_ne k0 (by decide)) (nm_r (nI_1 0) (hw _ (by rw [h, qd_mA x (i := 0) (by omega)])))
    · exact br_f (qd_ne k1 (by decide)) (nm_r (nI_1 1) (hw _ (by rw [h, qd_mA x (i := 1) (by omega)])))
    · exact br_t k2 (nm_e (nm_r (nI_1 2) (hw _ (by rw [h, qd_mB x (i := 2) (by omega)]))))
    · exact br_t k3 (nm_e (nm_r (nI_1 3) (hw _ (by rw [h, qd_mB x (i := 3) (by omega)]))))
theorem qd_named1 {post : Int32 → Prop} {t : Nat} (S : qd_src t a1 a2 a4 a5) (H : post 0) : wpX_namedBy post (4, cp, sd, pl, ce, hd, ac, sc, a1, a2, a3, a4, a5, a6, a7, a8, a9, a10, a11) 1 := by
  obtain ⟨k0, k1, k2, k3, _⟩ := S
  refine ⟨pk_in 1 20 (by decide), nm_r k1 (br_t (by decide) (br_t (by decide) (br_f (by decide) (qd_98 k0 k1 k2 k3 ?_))))⟩
  rw [qd_m0]
  exact H
theorem qd_61 {post : Int32 → Prop} {t : Nat} (ht : t ≤ 6) (S : qd_src t a1 a2 a4 a5) (H : post (qd_m (qd_o t) 20)) : ∃ n, wX_namedBy_61 post 0 4 cp sd pl ce hd ac sc a1 a2 a3 a4 a5 a6 a7 a8 a9 a10 a11 n 0 0 := by
  obtain ⟨k0, k1, k2, k3, _, _, _, _, k4, k5⟩ := S
  have k4' : a4 (0 : Int32).toNatClampNeg = nI t := k4
  refine pk_loop (fun n i s => wX_namedBy_61 post 0 4 cp sd pl ce hd ac sc a1 a2 a3 a4 a5 a6 a7 a8 a9 a10 a11 n s (nI i)) (fun i s => s = qd_o i) t 0 0 (by omega) rfl ?_ ?_
  · intro n s h
    refine ⟨pk_in 0 20 (by decide), pk_le t t (fun _ => ?_) (fun z => absurd z (by omega)) (hx := k4')⟩
    rw [h]
    exact qd_98 k0 k1 k2 k3 H
  · intro n i s hi h hw
    refine ⟨pk_in 0 20 (by decide), pk_le t i (fun z => absurd z (by omega)) (fun _ => ?_) (hx := k4')⟩
    rw [qd_z6, nI_clamp (by omega), k5 i hi]
    exact ⟨pk_in i 120 (by omega), nm_e (nm_r (nI_1 i) (hw _ (by rw [h]; rfl)))⟩
theorem qd_named0 {post : Int32 → Prop} {t : Nat} (ht : t ≤ 6) (S : qd_src t a1 a2 a4 a5) (H : post (qd_m (qd_o t) 20)) : wpX_namedBy post (4, cp, sd, pl, ce, hd, ac, sc, a1, a2, a3, a4, a5, a6, a7, a8, a9, a10, a11) 0 :=
  ⟨pk_in 0 20 (by decide), nm_r S.1 (br_f (by decide) (br_t (by decide) (br_f (by decide) (br_t (by decide) (br_t rfl (qd_61 ht S H))))))⟩
/-- the rounds of orderNodes: the first places the input -/
theorem qd_rA {post : Int32 → St2 → Prop} {J : Int32 → Int32 → Int32 → (Nat → Int32) → (Nat → Int32) → (Nat → Int32) → (Nat → Int32) → (Nat → Int32) → (Nat → Int32) → (Nat → Int32) → (Nat → Int32) → (Nat → Int32) → (Nat → Int32) → (Nat → Int32) → Prop} {x2 x3 : Int32} {t : Nat} (ht : t ≤ 6) (S : qd_src t a1 a2 a4 a5) (hR : ¬ (qd_m (qd_o t) 20 &&& ((0 : Int32) ^^^ (-1))) = 0) (H : J 2 (x3 + 1) 1 a1 a2 a3 a4 a5 a6 (upd a7 0 1) a8 a9 a10 a11) : ∃ n, wX_orderNodes_51 post J x2 x3 4 cp sd ce hd ac sc n 0 0 0 a1 a2 a3 a4 a5 a6 a7 a8 a9 a10 a11 := by
  obtain ⟨k0, k1, k2, k3, _⟩ := id S
  refine ⟨5, br_f (by decide) ⟨pk_in 0 20 (by decide), br_f (qd_ne k0 (by decide)) (br_t (by decide) (qd_named0 ht S (br_f hR (nm_r (e' := 1) (by decide) ?_))))⟩⟩
  refine br_f (by decide) ⟨pk_in 1 20 (by decide), br_f (qd_ne k1 (by decide)) (br_t (by decide) (qd_named1 S (br_t (by decide) (nm_r (e' := 2) (by decide) ⟨pk_in 0 20 (by decide), nm_r (e' := upd a7 0 1) rfl (nm_r (e' := 1) (by decide) (nm_r (e' := 2) (by decide) ?_))⟩))))⟩
  refine br_f (by decide) ⟨pk_in 2 20 (by decide), br_t k2 (nm_r (e' := 3) (by decide) ?_)⟩
  refine br_f (by decide) ⟨pk_in 3 20 (by decide), br_t k3 (nm_r (e' := 4) (by decide) ?_)⟩
  exact br_t (by decide) (nm_e H)
/-- the second places the sum, where the input is all that it waits for -/
theorem qd_rB {post : Int32 → St2 → Prop} {J : Int32 → Int32 → Int32 → (Nat → Int32) → (Nat → Int32) → (Nat → Int32) → (Nat → Int32) → (Nat → Int32) → (Nat → Int32) → (Nat → Int32) → (Nat → Int32) → (Nat → Int32) → (Nat → Int32) → (Nat → Int32) → Prop} {x2 x3 : Int32} {t : Nat} (ht : t ≤ 6) (S : qd_src t a1 a2 a4 a5) (hR : (qd_m (qd_o t) 20 &&& ((2 : Int32) ^^^ (-1))) = 0) (H : J 3 (x3 + 1) 2 a1 a2 a3 a4 a5 a6 (upd a7 1 0) a8 a9 a10 a11) : ∃ n, wX_orderNodes_51 post J x2 x3 4 cp sd ce hd ac sc n 2 0 1 a1 a2 a3 a4 a5 a6 a7 a8 a9 a10 a11 := by
  obtain ⟨k0, k1, k2, k3, _⟩ := id S
  refine ⟨5, br_f (by decide) ⟨pk_in 0 20 (by decide), br_f (qd_ne k0 (by decide)) (br_t (by decide) (qd_named0 ht S (br_t hR (nm_r (e' := 3) (by decide) ⟨pk_in 1 20 (by decide), nm_r (e' := upd a7 1 0) rfl (nm_r (e' := 2) (by decide) (nm_r (e' := 1) (by decide) ?_))⟩))))⟩⟩
  refine br_f (by decide) ⟨pk_in 1 20 (by decide), br_f (qd_ne k1 (by decide)) (br_f (by decide) (nm_r (e' := 2) (by decide) ?_))⟩
  refine br_f (by decide) ⟨pk_in 2 20 (by decide), br_t k2 (nm_r (e' := 3) (by decide) ?_)⟩
  refine br_f (by decide) ⟨pk_in 3 20 (by decide), br_t k3 (nm_r (e' := 4) (by decide) ?_)⟩
  exact br_t (by decide) (nm_e H)
/-- a round that places nothing: all is done -/
theorem qd_rC {post : Int32 → St2 → Prop} {J : Int32 → Int32 → Int32 → (Nat → Int32) → (Nat → Int32) → (Nat → Int32) → (Nat → Int32) → (Nat → Int32) → (Nat → Int32) → (Nat → Int32) → (Nat → Int32) → (Nat → Int32) → (Nat → Int32) → (Nat → Int32) → Prop} {x2 x3 : Int32} {t : Nat} (S : qd_src t a1 a2 a4 a5) (H : J 3 (x3 + 1) pl a1 a2 a3 a4 a5 a6 a7 a8 a9 a10 a11) : ∃ n, wX_orderNodes_51 post J x2 x3 4 cp sd ce hd ac sc n 3 0 pl a1 a2 a3 a4 a5 a6 a7 a8 a9 a10 a11 := by
  obtain ⟨k0, k1, k2, k3, _⟩ := id S
  refine ⟨5, br_f (by decide) ⟨pk_in 0 20 (by decide), br_f (qd_ne k0 (by decide)) (br_f (by decide) (nm_r (e' := 1) (by decide) ?_))⟩⟩
  refine br_f (by decide) ⟨pk_in 1 20 (by decide), br_f (qd_ne k1 (by decide)) (br_f (by decide) (nm_r (e' := 2) (by decide) ?_))⟩
  refine br_f (by decide) ⟨pk_in 2 20 (by decide), br_t k2 (nm_r (e' := 3) (by decide) ?_)⟩
  refine br_f (by decide) ⟨pk_in 3 20 (by decide), br_t k3 (nm_r (e' := 4) (by decide) ?_)⟩
  exact br_t (by decide) (nm_e H)
/-- a round that places nothing: the sum waits for itself -/
theorem qd_rD {post : Int32 → St2 → Prop} {J : Int32 → Int32 → Int32 → (Nat → Int32) → (Nat → Int32) → (Nat → Int32) → (Nat → Int32) → (Nat → Int32) → (Nat → Int32) → (Nat → Int32) → (Nat → Int32) → (Nat → Int32) → (Nat → Int32) → (Nat → Int32) → Prop} {x2 x3 : Int32} {t : Nat} (ht : t ≤ 6) (S : qd_src t a1 a2 a4 a5) (hR : ¬ (qd_m (qd_o t) 20 &&& ((2 : Int32) ^^^ (-1))) = 0) (H : J 2 (x3 + 1) pl a1 a2 a3 a4 a5 a6 a7 a8 a9 a10 a11) : ∃ n, wX_orderNodes_51 post J x2 x3 4 cp sd ce hd ac sc n 2 0 pl a1 a2 a3 a4 a5 a6 a7 a8 a9 a10 a11 := by
  obtain ⟨k0, k1, k2, k3, _⟩ := id S
  refine ⟨5, br_f (by decide) ⟨pk_in 0 20 (by decide), br_f (qd_ne k0 (by decide)) (br_t (by decide) (qd_named0 ht S (br_f hR (nm_r (e' := 1) (by decide) ?_))))⟩⟩
  refine br_f (by decide) ⟨pk_in 1 20 (by decide), br_f (qd_ne k1 (by decide)) (br_f (by decide) (nm_r (e' := 2) (by decide) ?_))⟩
  refine br_f (by decide) ⟨pk_in 2 20 (by decide), br_t k2 (nm_r (e' := 3) (by decide) ?_)⟩
  refine br_f (by decide) ⟨pk_in 3 20 (by decide), br_t k3 (nm_r (e' := 4) (by decide) ?_)⟩
  exact br_t (by decide) (nm_e H)
/-- the count of the delays -/
theorem qd_11 {post : Int32 → St2 → Prop} {t : Nat} (S : qd_src t a1 a2 a4 a5) (H : ∃ n, wX_orderNodes_40 post 2 4 cp sd ce hd ac sc n 0 0 pl a1 a2 a3 a4 a5 a6 a7 a8 a9 a10 a11) : ∃ n, wX_orderNodes_11 post 0 4 cp sd pl ce hd ac sc a1 a2 a3 a4 a5 a6 a7 a8 a9 a10 a11 n 0 0 := by
  obtain ⟨k0, k1, k2, k3, _⟩ := id S
  refine ⟨5, br_f (by decide) ⟨pk_in 0 20 (by decide), br_f (qd_ne k0 (by decide)) (nm_r (e' := 1) (by decide) ?_)⟩⟩
  refine br_f (by decide) ⟨pk_in 1 20 (by decide), br_f (qd_ne k1 (by decide)) (nm_r (e' := 2) (by decide) ?_)⟩
  refine br_f (by decide) ⟨pk_in 2 20 (by decide), br_t k2 (nm_r (e' := 1) (by decide) (nm_r (e' := 3) (by decide) ?_))⟩
  refine br_f (by decide) ⟨pk_in 3 20 (by decide), br_t k3 (nm_r (e' := 2) (by decide) (nm_r (e' := 4) (by decide) ?_))⟩
  exact br_t (by decide) H
/-- three taps: the nodes can be ordered: 1, 0 -/
theorem qd_order3 {post : Int32 → St2 → Prop} (S : qd_src 3 a1 a2 a4 a5) (H : post 1 (4, cp, sd, 2, ce, hd, ac, sc, a1, a2, a3, a4, a5, a6, upd (upd a7 0 1) 1 0, a8, a9, a10, a11)) : wpX_orderNodes post (4, cp, sd, pl, ce, hd, ac, sc, a1, a2, a3, a4, a5, a6, a7, a8, a9, a10, a11) := by
  refine qd_11 S ⟨5, br_f (by decide) (qd_rA (by decide) S (by rw [qd_m3]; decide) ?_)⟩
  refine br_f (by decide) (qd_rB (by decide) S (by rw [qd_m3]; decide) ?_)
  refine br_f (by decide) (qd_rC S ?_)
  refine br_f (by decide) (qd_rC S ?_)
  exact br_t (by decide) (br_t (by decide) H)
/-- four taps: the sum names itself -/
theorem qd_order4 {post : Int32 → St2 → Prop} (S : qd_src 4 a1 a2 a4 a5) (H : post 0 (4, cp, sd, 1, ce, hd, ac, sc, a1, a2, a3, a4, a5, a6, upd a7 0 1, a8, a9, a10, a11)) : wpX_orderNodes post (4, cp, sd, pl, ce, hd, ac, sc, a1, a2, a3, a4, a5, a6, a7, a8, a9, a10, a11) := by
  refine qd_11 S ⟨5, br_f (by decide) (qd_rA (by decide) S (by rw [qd_m4]; decide) ?_)⟩
  refine br_f (by decide) (qd_rD (by decide) S (by rw [qd_m4]; decide) ?_)
  refine br_f (by decide) (qd_rD (by decide) S (by rw [qd_m4]; decide) ?_)
  refine br_f (by decide) (qd_rD (by decide) S (by rw [qd_m4]; decide) ?_)
  exact br_t (by decide) (br_f (by decide) H)
end
end
section
/-! ===== 4. compiling: the code of the three-tap filter ===== -/
def qd_O (k : Nat) : Int32 := [(0 : Int32), 2, 0, 2, 0, 2, 1, 10, 10, 10, 11, 12, 2, 0, 2, 0, 2].getD k 0
def qd_C (k : Nat) : Int32 := [(22 : Int32), 2, 23, 3, 41, 1, 40, 1, 2, 3, 40, 40, 0, 1, 22, 2, 23].getD k 0
def qd_N (w0 w1 w2 : Int32) (k : Nat) : Int32 := [(0 : Int32), 0, 0, 0, 0, 0, 0, w0, w1, w2, 0, 0, 0, 0, 0, 0, 0].getD k 0
/-- the first e rows of the code -/
def qd_code (e : Nat) (w0 w1 w2 : Int32) (a8 a9 a10 : Nat → Int32) : Prop := ∀ k, k < e → a8 k = qd_O k ∧ a9 k = qd_N w0 w1 w2 k ∧ a10 k = qd_C k
theorem qd_code0 {w0 w1 w2 : Int32} {a8 a9 a10 : Nat → Int32} : qd_code 0 w0 w1 w2 a8 a9 a10 := fun k hk => absurd hk (by omega)
theorem qd_codeS {e : Nat} {o c m w0 w1 w2 : Int32} {a8 a9 a10 : Nat → Int32} (h : qd_code e w0 w1 w2 a8 a9 a10) (ho : o = qd_O e) (hm : m = qd_N w0 w1 w2 e) (hc : c = qd_C e) : qd_code (e + 1) w0 w1 w2 (upd a8 e o) (upd a9 e m) (upd a10 e c) := by
  intro k hk
  by_cases g : k = e
  · rw [g, pk_us, pk_us, pk_us]
    exact ⟨ho, hm, hc⟩
  · rw [pk_un g, pk_un g, pk_un g]
    exact h k (by omega)
section
variable {nc cp sd pl ce hd sc : Int32} {ac : Int64} {a1 a2 a3 a4 a5 a6 a7 a8 a9 a10 a11 : Nat → Int32}
theorem qd_write {post : St2 → Prop} {e : Nat} {o c m w0 w1 w2 : Int32} (he : e < 300) (h : qd_code e w0 w1 w2 a8 a9 a10) (ho : o.toInt8.toInt32 = qd_O e) (hm : m = qd_N w0 w1 w2 e) (hc : c.toInt8.toInt32 = qd_C e) (H : ∀ b8 b9 b10 : Nat → Int32, qd_code (e + 1) w0 w1 w2 b8 b9 b10 → post (nc, cp, sd, pl, nI (e + 1), -1, ac, sc, a1, a2, a3, a4, a5, a6, a7, b8, b9, b10, a11)) : wpX_write post (nc, cp, sd, pl, nI e, hd, ac, sc, a1, a2, a3, a4, a5, a6, a7, a8, a9, a10, a11) o c m := by
  have ee : (nI e).toNatClampNeg = e := nI_clamp (by omega)
  unfold wpX_write
  dsimp only
  rw [ee]
  exact ⟨pk_in e 300 he, nm_e ⟨pk_in e 300 he, nm_e ⟨pk_in e 300 he, nm_e (nm_r (nI_1 e) (H _ _ _ (qd_codeS h ho hm hc)))⟩⟩⟩
theorem qd_load {post : St2 → Prop} {e : Nat} {c w0 w1 w2 : Int32} (hh : ¬ hd = c) (he : e < 300) (h : qd_code e w0 w1 w2 a8 a9 a10) (ho : (0 : Int32).toInt8.toInt32 = qd_O e) (hm : 0 = qd_N w0 w1 w2 e) (hc : c.toInt8.toInt32 = qd_C e) (H : ∀ b8 b9 b10 : Nat → Int32, qd_code (e + 1) w0 w1 w2 b8 b9 b10 → post (nc, cp, sd, pl, nI (e + 1), -1, ac, sc, a1, a2, a3, a4, a5, a6, a7, b8, b9, b10, a11)) : wpX_load post (nc, cp, sd, pl, nI e, hd, ac, sc, a1, a2, a3, a4, a5, a6, a7, a8, a9, a10, a11) c :=
  br_f hh (qd_write he h ho hm hc H)
theorem qd_store {post : St2 → Prop} {e : Nat} {c w0 w1 w2 : Int32} (he : e < 300) (h : qd_code e w0 w1 w2 a8 a9 a10) (ho : (2 : Int32).toInt8.toInt32 = qd_O e) (hm : 0 = qd_N w0 w1 w2 e) (hc : c.toInt8.toInt32 = qd_C e) (H : ∀ b8 b9 b10 : Nat → Int32, qd_code (e + 1) w0 w1 w2 b8 b9 b10 → post (nc, cp, sd, pl, nI (e + 1), c, ac, sc, a1, a2, a3, a4, a5, a6, a7, b8, b9, b10, a11)) : wpX_store post (nc, cp, sd, pl, nI e, hd, ac, sc, a1, a2, a3, a4, a5, a6, a7, a8, a9, a10, a11) c := by
  unfold wpX_store
  exact qd_write he h ho hm hc H
theorem qd_copy {post : St2 → Prop} {e : Nat} {c d w0 w1 w2 : Int32} (hh : ¬ hd = c) (he : e + 1 < 300) (h : qd_code e w0 w1 w2 a8 a9 a10) (ho : (0 : Int32).toInt8.toInt32 = qd_O e) (hm : 0 = qd_N w0 w1 w2 e) (hc : c.toInt8.toInt32 = qd_C e) (ho' : (2 : Int32).toInt8.toInt32 = qd_O (e + 1)) (hm' : 0 = qd_N w0 w1 w2 (e + 1)) (hc' : d.toInt8.toInt32 = qd_C (e + 1)) (H : ∀ b8 b9 b10 : Nat → Int32, qd_code (e + 1 + 1) w0 w1 w2 b8 b9 b10 → post (nc, cp, sd, pl, nI (e + 1 + 1), d, ac, sc, a1, a2, a3, a4, a5, a6, a7, b8, b9, b10, a11)) : wpX_copy post (nc, cp, sd, pl, nI e, hd, ac, sc, a1, a2, a3, a4, a5, a6, a7, a8, a9, a10, a11) c d := by
  unfold wpX_copy
  exact qd_load hh (by omega) h ho hm hc (fun b8 b9 b10 hb => qd_store he hb ho' hm' hc' H)
theorem qd_cellFor {post : Int32 → Prop} {i : Nat} {x : Int32} (hx : x = nI i) (hi : i < 4) (H : post (nI i)) : wpX_cellFor post (4, cp, sd, pl, ce, hd, ac, sc, a1, a2, a3, a4, a5, a6, a7, a8, a9, a10, a11) x := by
  subst hx
  exact br_f (nI_ge (b := 4) hi (by omega)) H
/-- the first loop: the delays show what was kept for them -/
theorem qd_41 {post : St2 → Prop} {t : Nat} {w0 w1 w2 : Int32} (S : qd_src t a1 a2 a4 a5) (H : ∀ b8 b9 b10 : Nat → Int32, qd_code 4 w0 w1 w2 b8 b9 b10 → ∃ n, wX_compile_76 post n 0 4 cp sd pl (nI 4) 3 ac sc a1 a2 a3 a4 a5 a6 a7 b8 b9 b10 a11) : ∃ n, wX_compile_41 post n 0 4 cp sd pl (nI 0) (-1) ac sc a1 a2 a3 a4 a5 a6 a7 a8 a9 a10 a11 := by
  obtain ⟨k0, k1, k2, k3, _⟩ := id S
  refine ⟨5, br_f (by decide) ⟨pk_in 0 20 (by decide), br_f (qd_ne k0 (by decide)) (nm_r (e' := 1) (by decide) ?_)⟩⟩
  refine br_f (by decide) ⟨pk_in 1 20 (by decide), br_f (qd_ne k1 (by decide)) (nm_r (e' := 2) (by decide) ?_)⟩
  refine br_f (by decide) ⟨pk_in 2 20 (by decide), br_t k2 (qd_copy (w0 := w0) (w1 := w1) (w2 := w2) (by decide) (by decide) qd_code0 (by decide) rfl (by decide) (by decide) rfl (by decide) (fun c8 c9 c10 hc => nm_r (e' := 3) (by decide) ?_))⟩
  refine br_f (by decide) ⟨pk_in 3 20 (by decide), br_t k3 (qd_copy (by decide) (by decide) hc (by decide) rfl (by decide) (by decide) rfl (by decide) (fun b8 b9 b10 hb => nm_r (e' := 4) (by decide) ?_))⟩
  exact br_t (by decide) (H b8 b9 b10 hb)
/-- the input's code -/
theorem qd_node1 {post : St2 → Prop} {t : Nat} {p w0 w1 w2 : Int32} (hp : p = 1) (S : qd_src t a1 a2 a4 a5) (h : qd_code 4 w0 w1 w2 a8 a9 a10) (H : ∀ b8 b9 b10 : Nat → Int32, qd_code 6 w0 w1 w2 b8 b9 b10 → post (4, cp, sd, pl, nI 6, 1, ac, sc, a1, a2, a3, a4, a5, a6, a7, b8, b9, b10, a11)) : wpX_compileNode post (4, cp, sd, pl, nI 4, 3, ac, sc, a1, a2, a3, a4, a5, a6, a7, a8, a9, a10, a11) p := by
  subst hp
  obtain ⟨k0, k1, k2, k3, _⟩ := id S
  refine ⟨pk_in 1 20 (by decide), nm_r k1 (br_t (by decide) (qd_load (by decide) (by decide) h (by decide) rfl (by decide) (fun b8 b9 b10 hb => ?_)))⟩
  exact qd_store (by decide) hb (by decide) rfl (by decide) H
/-- the sum's loop over its taps -/
theorem qd_sum10 {post : St2 → Prop} {w0 w1 w2 : Int32} (S : qd_src 3 a1 a2 a4 a5) (f0 : a6 0 = w0) (f1 : a6 1 = w1) (f2 : a6 2 = w2) (h : qd_code 7 w0 w1 w2 a8 a9 a10) (H : ∀ b8 b9 b10 : Nat → Int32, qd_code 12 w0 w1 w2 b8 b9 b10 → post (4, cp, sd, pl, nI 12, -1, ac, sc, a1, a2, a3, a4, a5, a6, a7, b8, b9, b10, a11)) : ∃ n, wX_compileSum_10 post 0 n 0 4 cp sd pl (nI 7) hd ac sc a1 a2 a3 a4 a5 a6 a7 a8 a9 a10 a11 := by
  obtain ⟨k0, k1, k2, k3, _, _, _, _, k4, k5⟩ := id S
  have k4' : a4 (0 : Int32).toNatClampNeg = nI 3 := k4
  refine ⟨4, ⟨pk_in 0 20 (by decide), pk_le 3 0 (fun z => absurd z (by omega)) (fun _ => nm_r (e' := 0) (by decide) ⟨pk_in 0 120 (by decide), qd_cellFor (i := 1) (k5 0 (by decide)) (by decide) ⟨pk_in 0 120 (by decide), qd_write (by decide) h (by decide) f0 (by decide) (fun c8 c9 c10 hc => nm_r (e' := 1) (by decide) ?_)⟩⟩) (hx := k4')⟩⟩
  refine ⟨pk_in 0 20 (by decide), pk_le 3 1 (fun z => absurd z (by omega)) (fun _ => nm_r (e' := 1) (by decide) ⟨pk_in 1 120 (by decide), qd_cellFor (i := 2) (k5 1 (by decide)) (by decide) ⟨pk_in 1 120 (by decide), qd_write (by decide) hc (by decide) f1 (by decide) (fun d8 d9 d10 hq => nm_r (e' := 2) (by decide) ?_)⟩⟩) (hx := k4')⟩
  refine ⟨pk_in 0 20 (by decide), pk_le 3 2 (fun z => absurd z (by omega)) (fun _ => nm_r (e' := 2) (by decide) ⟨pk_in 2 120 (by decide), qd_cellFor (i := 3) (k5 2 (by decide)) (by decide) ⟨pk_in 2 120 (by decide), qd_write (by decide) hq (by decide) f2 (by decide) (fun g8 g9 g10 hg => nm_r (e' := 3) (by decide) ?_)⟩⟩) (hx := k4')⟩
  refine ⟨pk_in 0 20 (by decide), pk_le 3 3 (fun _ => qd_write (by decide) hg (by decide) rfl (by decide) (fun c8 c9 c10 hc => ?_)) (fun z => absurd z (by omega)) (hx := k4')⟩
  exact qd_write (by decide) hc (by decide) rfl (by decide) H
/-- the sum's code -/
theorem qd_nodeS {post : St2 → Prop} {p w0 w1 w2 : Int32} (hp : p = 0) (S : qd_src 3 a1 a2 a4 a5) (f0 : a6 0 = w0) (f1 : a6 1 = w1) (f2 : a6 2 = w2) (h : qd_code 6 w0 w1 w2 a8 a9 a10) (H : ∀ b8 b9 b10 : Nat → Int32, qd_code 13 w0 w1 w2 b8 b9 b10 → post (4, cp, sd, pl, nI 13, 0, ac, sc, a1, a2, a3, a4, a5, a6, a7, b8, b9, b10, a11)) : wpX_compileNode post (4, cp, sd, pl, nI 6, hd, ac, sc, a1, a2, a3, a4, a5, a6, a7, a8, a9, a10, a11) p := by
  subst hp
  obtain ⟨k0, k1, k2, k3, _⟩ := id S
  refine ⟨pk_in 0 20 (by decide), nm_r k0 (br_f (by decide) (br_f (by decide) (br_t (by decide) ?_)))⟩
  unfold wpX_compileSum
  refine qd_write (by decide) h (by decide) rfl (by decide) (fun c8 c9 c10 hc => ?_)
  refine qd_sum10 S f0 f1 f2 hc (fun b8 b9 b10 hb => ?_)
  exact qd_store (by decide) hb (by decide) rfl (by decide) H
/-- the last loop: what the delays keep -/
theorem qd_102 {post : St2 → Prop} {t : Nat} {w0 w1 w2 : Int32} (S : qd_src t a1 a2 a4 a5) (h : qd_code 13 w0 w1 w2 a8 a9 a10) (H : ∀ b8 b9 b10 : Nat → Int32, qd_code 17 w0 w1 w2 b8 b9 b10 → post (4, cp, sd, pl, nI 17, 20 + 3, ac, sc, a1, a2, a3, a4, a5, a6, a7, b8, b9, b10, a11)) : ∃ n, wX_compile_102 post n 0 4 cp sd pl (nI 13) 0 ac sc a1 a2 a3 a4 a5 a6 a7 a8 a9 a10 a11 := by
  obtain ⟨k0, k1, k2, k3, l0, l1, l2, l3, _⟩ := id S
  refine ⟨5, br_f (by decide) ⟨pk_in 0 20 (by decide), qd_cellFor (i := 0) l0 (by decide) ⟨pk_in 0 20 (by decide), br_f (qd_ne k0 (by decide)) (nm_r (e' := 1) (by decide) ?_)⟩⟩⟩
  refine br_f (by decide) ⟨pk_in 1 20 (by decide), qd_cellFor (i := 0) l1 (by decide) ⟨pk_in 1 20 (by decide), br_f (qd_ne k1 (by decide)) (nm_r (e' := 2) (by decide) ?_)⟩⟩
  refine br_f (by decide) ⟨pk_in 2 20 (by decide), qd_cellFor (i := 1) l2 (by decide) ⟨pk_in 2 20 (by decide), br_t k2 (qd_copy (by decide) (by decide) h (by decide) rfl (by decide) (by decide) rfl (by decide) (fun c8 c9 c10 hc => nm_r (e' := 3) (by decide) ?_))⟩⟩
  refine br_f (by decide) ⟨pk_in 3 20 (by decide), qd_cellFor (i := 2) l3 (by decide) ⟨pk_in 3 20 (by decide), br_t k3 (qd_copy (by decide) (by decide) hc (by decide) rfl (by decide) (by decide) rfl (by decide) (fun b8 b9 b10 hb => nm_r (e' := 4) (by decide) ?_))⟩⟩
  exact br_t (by decide) (H b8 b9 b10 hb)
/-- compile, three taps, not compiled yet -/
theorem qd_compile3 {post : St2 → Prop} {w0 w1 w2 : Int32} (S : qd_src 3 a1 a2 a4 a5) (f0 : a6 0 = w0) (f1 : a6 1 = w1) (f2 : a6 2 = w2) (H : ∀ b7 b8 b9 b10 : Nat → Int32, qd_code 17 w0 w1 w2 b8 b9 b10 → post (4, 1, 1, 2, nI 17, 20 + 3, ac, sc, a1, a2, a3, a4, a5, a6, b7, b8, b9, b10, a11)) : wpX_compile post (4, 0, sd, pl, ce, hd, ac, sc, a1, a2, a3, a4, a5, a6, a7, a8, a9, a10, a11) := by
  refine br_t rfl (qd_order3 S ⟨rfl, rfl, br_f (by decide) ?_⟩)
  refine qd_41 (w0 := w0) (w1 := w1) (w2 := w2) S (fun c8 c9 c10 hc => ⟨3, ?_⟩)
  refine br_f (by decide) ⟨pk_in 0 20 (by decide), qd_node1 rfl S hc (fun d8 d9 d10 hq => nm_r (e' := 1) (by decide) ?_)⟩
  refine br_f (by decide) ⟨pk_in 1 20 (by decide), qd_nodeS rfl S f0 f1 f2 hq (fun g8 g9 g10 hg => nm_r (e' := 2) (by decide) ?_)⟩
  exact br_t (by decide) (qd_102 S hg (H _))
/-- compile, four taps: not sound -/
theorem qd_compile4 {post : St2 → Prop} (S : qd_src 4 a1 a2 a4 a5) (H : post (4, 1, 0, 1, 0, -1, ac, sc, a1, a2, a3, a4, a5, a6, upd a7 0 1, a8, a9, a10, a11)) : wpX_compile post (4, 0, sd, pl, ce, hd, ac, sc, a1, a2, a3, a4, a5, a6, a7, a8, a9, a10, a11) :=
  br_t rfl (qd_order4 S ⟨rfl, rfl, br_t rfl H⟩)
/-- compile, compiled already -/
theorem qd_compile1 {post : St2 → Prop} (H : post (nc, 1, sd, pl, ce, hd, ac, sc, a1, a2, a3, a4, a5, a6, a7, a8, a9, a10, a11)) : wpX_compile post (nc, 1, sd, pl, ce, hd, ac, sc, a1, a2, a3, a4, a5, a6, a7, a8, a9, a10, a11) :=
  br_f (by decide) H
end
end
section
/-! ===== 5. the machine ===== -/
section
variable {nc cp sd pl ce hd sc : Int32} {ac : Int64} {a1 a2 a3 a4 a5 a6 a7 a8 a9 a10 a11 : Nat → Int32}
theorem qd_pLoad {post : St2 → Prop} {k c : Nat} {x : Int32} (hk : k < 300) (hc : c < 42) (o8 : a8 k = 0) (o10 : a10 k = nI c) (hx : a11 c = x) (H : post (nc, cp, sd, pl, ce, hd, x.toInt64, sc, a1, a2, a3, a4, a5, a6, a7, a8, a9, a10, a11)) : wpX_perform post (nc, cp, sd, pl, ce, hd, ac, sc, a1, a2, a3, a4, a5, a6, a7, a8, a9, a10, a11) (nI k) := by
  unfold wpX_perform
  dsimp only
  rw [nI_clamp (show k < 2 ^ 31 by omega), o8, o10, nI_clamp (show c < 2 ^ 31 by omega), hx]
  exact ⟨pk_in k 300 hk, nm_e ⟨pk_in k 300 hk, pk_in c 42 hc, nm_e ⟨pk_in k 300 hk, nm_e (br_t rfl H)⟩⟩⟩
theorem qd_pNum {post : St2 → Prop} {k c : Nat} {m : Int32} (hk : k < 300) (hc : c < 42) (o8 : a8 k = 1) (o10 : a10 k = nI c) (o9 : a9 k = m) (H : post (nc, cp, sd, pl, ce, hd, m.toInt64, sc, a1, a2, a3, a4, a5, a6, a7, a8, a9, a10, a11)) : wpX_perform post (nc, cp, sd, pl, ce, hd, ac, sc, a1, a2, a3, a4, a5, a6, a7, a8, a9, a10, a11) (nI k) := by
  unfold wpX_perform
  dsimp only
  rw [nI_clamp (show k < 2 ^ 31 by omega), o8, o10, o9, nI_clamp (show c < 2 ^ 31 by omega)]
  exact ⟨pk_in k 300 hk, nm_e ⟨pk_in k 300 hk, pk_in c 42 hc, nm_e ⟨pk_in k 300 hk, nm_e (br_f (by decide) (br_t rfl H))⟩⟩⟩
theorem qd_pStore {post : St2 → Prop} {k c : Nat} {x : Int32} (hk : k < 300) (hc : c < 42) (o8 : a8 k = 2) (o10 : a10 k = nI c) (hx : ac.toInt32 = x) (H : post (nc, cp, sd, pl, ce, hd, ac, sc, a1, a2, a3, a4, a5, a6, a7, a8, a9, a10, upd a11 c x)) : wpX_perform post (nc, cp, sd, pl, ce, hd, ac, sc, a1, a2, a3, a4, a5, a6, a7, a8, a9, a10, a11) (nI k) := by
  unfold wpX_perform
  dsimp only
  rw [nI_clamp (show k < 2 ^ 31 by omega), o8, o10, nI_clamp (show c < 2 ^ 31 by omega), hx]
  exact ⟨pk_in k 300 hk, nm_e ⟨pk_in k 300 hk, pk_in c 42 hc, nm_e ⟨pk_in k 300 hk, nm_e (br_f (by decide) (br_f (by decide) (br_t rfl ⟨pk_in k 300 hk, pk_in c 42 hc, nm_e H⟩)))⟩⟩⟩
theorem qd_pMac {post : St2 → Prop} {k c : Nat} {m x : Int32} {v : Int64} (hk : k < 300) (hc : c < 42) (o8 : a8 k = 10) (o10 : a10 k = nI c) (o9 : a9 k = m) (hx : a11 c = x) (hv : ac + m.toInt64 * x.toInt64 = v) (H : post (nc, cp, sd, pl, ce, hd, v, sc, a1, a2, a3, a4, a5, a6, a7, a8, a9, a10, a11)) : wpX_perform post (nc, cp, sd, pl, ce, hd, ac, sc, a1, a2, a3, a4, a5, a6, a7, a8, a9, a10, a11) (nI k) := by
  unfold wpX_perform
  dsimp only
  rw [nI_clamp (show k < 2 ^ 31 by omega), o8, o10, o9, nI_clamp (show c < 2 ^ 31 by omega), hx]
  exact ⟨pk_in k 300 hk, nm_e ⟨pk_in k 300 hk, pk_in c 42 hc, nm_e ⟨pk_in k 300 hk, nm_e (br_f (by decide) (br_f (by decide) (br_f (by decide) (br_f (by decide) (br_f (by decide) (br_t rfl (nm_r hv H)))))))⟩⟩⟩
theorem qd_pRound {post : St2 → Prop} {k c : Nat} (hk : k < 300) (hc : c < 42) (o8 : a8 k = 11) (o10 : a10 k = nI c) (H : post (nc, cp, sd, pl, ce, hd, (ac + 16384) >>> ((15 : Int32).toInt64 &&& 63), sc, a1, a2, a3, a4, a5, a6, a7, a8, a9, a10, a11)) : wpX_perform post (nc, cp, sd, pl, ce, hd, ac, sc, a1, a2, a3, a4, a5, a6, a7, a8, a9, a10, a11) (nI k) := by
  unfold wpX_perform
  dsimp only
  rw [nI_clamp (show k < 2 ^ 31 by omega), o8, o10, nI_clamp (show c < 2 ^ 31 by omega)]
  refine ⟨pk_in k 300 hk, nm_e ⟨pk_in k 300 hk, pk_in c 42 hc, nm_e ⟨pk_in k 300 hk, nm_e (br_f (by decide) (br_f (by decide) (br_f (by decide) (br_f (by decide) (br_f (by decide) (br_f (by decide) (br_f (by decide) ?_)))))))⟩⟩⟩
  exact br_f (by decide) (br_f (by decide) (br_f (by decide) (br_f (by decide) (br_f (by decide) (nm_e H)))))
theorem qd_pSat {post : St2 → Prop} {k c : Nat} (hk : k < 300) (hc : c < 42) (o8 : a8 k = 12) (o10 : a10 k = nI c) (H : post (nc, cp, sd, pl, ce, hd, qd_sat ac, sc, a1, a2, a3, a4, a5, a6, a7, a8, a9, a10, a11)) : wpX_perform post (nc, cp, sd, pl, ce, hd, ac, sc, a1, a2, a3, a4, a5, a6, a7, a8, a9, a10, a11) (nI k) := by
  unfold wpX_perform
  dsimp only
  rw [nI_clamp (show k < 2 ^ 31 by omega), o8, o10, nI_clamp (show c < 2 ^ 31 by omega)]
  exact ⟨pk_in k 300 hk, nm_e ⟨pk_in k 300 hk, pk_in c 42 hc, nm_e ⟨pk_in k 300 hk, nm_e (br_f (by decide) (br_f (by decide) (br_f (by decide) (br_f (by decide) (br_f (by decide) (br_f (by decide) (br_t rfl (qd_saturated H))))))))⟩⟩⟩
/-- the cells behind a sample: the sum, the input, the delays, what they keep -/
def qd_cells (w0 w1 w2 x p q : Int32) (c : Nat → Int32) : Prop := c 0 = qd_rd (w0.toInt64 * x.toInt64 + w1.toInt64 * p.toInt64 + w2.toInt64 * q.toInt64) ∧ c 1 = x ∧ c 2 = p ∧ c 3 = q ∧ c 22 = x ∧ c 23 = p
/-- the code's run -/
theorem qd_run {post : Int32 → St2 → Prop} {w0 w1 w2 x p q : Int32} (h : qd_code 17 w0 w1 w2 a8 a9 a10) (hp : a11 22 = p) (hq : a11 23 = q) (hx : a11 41 = x) (H : ∀ (v : Int64) (c : Nat → Int32), qd_cells w0 w1 w2 x p q c → post 1 (nc, cp, sd, pl, nI 17, hd, v, sc + 1, a1, a2, a3, a4, a5, a6, a7, a8, a9, a10, c)) : ∃ n, wX_feed_29 post n 0 nc cp sd pl (nI 17) hd ac sc a1 a2 a3 a4 a5 a6 a7 a8 a9 a10 a11 := by
  have O8 : ∀ k, k < 17 → a8 k = qd_O k := fun k hk => (h k hk).1
  have O9 : ∀ k, k < 17 → a9 k = qd_N w0 w1 w2 k := fun k hk => (h k hk).2.1
  have O10 : ∀ k, k < 17 → a10 k = qd_C k := fun k hk => (h k hk).2.2
  refine ⟨18, br_f (by decide) (qd_pLoad (k := 0) (c := 22) (by decide) (by decide) (O8 0 (by decide)) (O10 0 (by decide)) hp (nm_r (e' := nI 1) (by decide) ?_))⟩
  refine br_f (by decide) (qd_pStore (k := 1) (c := 2) (x := p) (by decide) (by decide) (O8 1 (by decide)) (O10 1 (by decide)) (Int32.toInt32_toInt64 p) (nm_r (e' := nI 2) (by decide) ?_))
  refine br_f (by decide) (qd_pLoad (k := 2) (c := 23) (x := q) (by decide) (by decide) (O8 2 (by decide)) (O10 2 (by decide)) (by rw [pk_un (by decide)]; exact hq) (nm_r (e' := nI 3) (by decide) ?_))
  refine br_f (by decide) (qd_pStore (k := 3) (c := 3) (x := q) (by decide) (by decide) (O8 3 (by decide)) (O10 3 (by decide)) (Int32.toInt32_toInt64 q) (nm_r (e' := nI 4) (by decide) ?_))
  refine br_f (by decide) (qd_pLoad (k := 4) (c := 41) (x := x) (by decide) (by decide) (O8 4 (by decide)) (O10 4 (by decide)) (by rw [pk_un (by decide), pk_un (by decide)]; exact hx) (nm_r (e' := nI 5) (by decide) ?_))
  refine br_f (by decide) (qd_pStore (k := 5) (c := 1) (x := x) (by decide) (by decide) (O8 5 (by decide)) (O10 5 (by decide)) (Int32.toInt32_toInt64 x) (nm_r (e' := nI 6) (by decide) ?_))
  refine br_f (by decide) (qd_pNum (k := 6) (c := 40) (m := 0) (by decide) (by decide) (O8 6 (by decide)) (O10 6 (by decide)) (O9 6 (by decide)) (nm_r (e' := nI 7) (by decide) ?_))
  refine br_f (by decide) (qd_pMac (k := 7) (c := 1) (m := w0) (x := x) (v := w0.toInt64 * x.toInt64) (by decide) (by decide) (O8 7 (by decide)) (O10 7 (by decide)) (O9 7 (by decide)) pk_us (by rw [show (0 : Int32).toInt64 = 0 by decide, Int64.zero_add]) (nm_r (e' := nI 8) (by decide) ?_))
  refine br_f (by decide) (qd_pMac (k := 8) (c := 2) (m := w1) (x := p) (v := w0.toInt64 * x.toInt64 + w1.toInt64 * p.toInt64) (by decide) (by decide) (O8 8 (by decide)) (O10 8 (by decide)) (O9 8 (by decide)) (by rw [pk_un (by decide), pk_un (by decide), pk_us]) rfl (nm_r (e' := nI 9) (by decide) ?_))
  refine br_f (by decide) (qd_pMac (k := 9) (c := 3) (m := w2) (x := q) (v := w0.toInt64 * x.toInt64 + w1.toInt64 * p.toInt64 + w2.toInt64 * q.toInt64) (by decide) (by decide) (O8 9 (by decide)) (O10 9 (by decide)) (O9 9 (by decide)) (by rw [pk_un (by decide), pk_us]) rfl (nm_r (e' := nI 10) (by decide) ?_))
  refine br_f (by decide) (qd_pRound (k := 10) (c := 40) (by decide) (by decide) (O8 10 (by decide)) (O10 10 (by decide)) (nm_r (e' := nI 11) (by decide) ?_))
  refine br_f (by decide) (qd_pSat (k := 11) (c := 40) (by decide) (by decide) (O8 11 (by decide)) (O10 11 (by decide)) (nm_r (e' := nI 12) (by decide) ?_))
  refine br_f (by decide) (qd_pStore (k := 12) (c := 0) (x := qd_rd (w0.toInt64 * x.toInt64 + w1.toInt64 * p.toInt64 + w2.toInt64 * q.toInt64)) (by decide) (by decide) (O8 12 (by decide)) (O10 12 (by decide)) rfl (nm_r (e' := nI 13) (by decide) ?_))
  refine br_f (by decide) (qd_pLoad (k := 13) (c := 1) (x := x) (by decide) (by decide) (O8 13 (by decide)) (O10 13 (by decide)) (by rw [pk_un (by decide), pk_us]) (nm_r (e' := nI 14) (by decide) ?_))
  refine br_f (by decide) (qd_pStore (k := 14) (c := 22) (x := x) (by decide) (by decide) (O8 14 (by decide)) (O10 14 (by decide)) (Int32.toInt32_toInt64 x) (nm_r (e' := nI 15) (by decide) ?_))
  refine br_f (by decide) (qd_pLoad (k := 15) (c := 2) (x := p) (by decide) (by decide) (O8 15 (by decide)) (O10 15 (by decide)) (by rw [pk_un (by decide), pk_un (by decide), pk_un (by decide), pk_un (by decide), pk_us]) (nm_r (e' := nI 16) (by decide) ?_))
  refine br_f (by decide) (qd_pStore (k := 16) (c := 23) (x := p) (by decide) (by decide) (O8 16 (by decide)) (O10 16 (by decide)) (Int32.toInt32_toInt64 p) (nm_r (e' := nI 17) (by decide) ?_))
  refine br_t (by decide) (nm_e (H _ _ ⟨?_, ?_, ?_, ?_, ?_, ?_⟩))
  · rw [pk_un (by decide), pk_un (by decide), pk_us]
  · rw [pk_un (by decide), pk_un (by decide), pk_un (by decide), pk_us]
  · rw [pk_un (by decide), pk_un (by decide), pk_un (by decide), pk_un (by decide), pk_un (by decide), pk_us]
  · rw [pk_un (by decide), pk_un (by decide), pk_un (by decide), pk_un (by decide), pk_us]
  · rw [pk_un (by decide), pk_us]
  · rw [pk_us]
/-- a machine that can be fed: the three-tap source; compiled, or to be compiled at the next sample -/
def qd_rdy (w0 w1 w2 cp sd ce : Int32) (a1 a2 a4 a5 a6 a8 a9 a10 : Nat → Int32) : Prop := qd_src 3 a1 a2 a4 a5 ∧ a6 0 = w0 ∧ a6 1 = w1 ∧ a6 2 = w2 ∧ (cp = 0 ∨ (cp = 1 ∧ sd = 1 ∧ ce = nI 17 ∧ qd_code 17 w0 w1 w2 a8 a9 a10))
/-- feed(x) -/
theorem qd_feed {post : Int32 → St2 → Prop} {w0 w1 w2 x p q : Int32} (R : qd_rdy w0 w1 w2 cp sd ce a1 a2 a4 a5 a6 a8 a9 a10) (hx : qd_sh x) (hp : a11 22 = p) (hq : a11 23 = q) (H : ∀ (cp sd pl ce hd : Int32) (ac : Int64) (a7 a8 a9 a10 a11 : Nat → Int32), qd_rdy w0 w1 w2 cp sd ce a1 a2 a4 a5 a6 a8 a9 a10 → qd_cells w0 w1 w2 x p q a11 → post 1 (4, cp, sd, pl, ce, hd, ac, sc + 1, a1, a2, a3, a4, a5, a6, a7, a8, a9, a10, a11)) : wpX_feed post (4, cp, sd, pl, ce, hd, ac, sc, a1, a2, a3, a4, a5, a6, a7, a8, a9, a10, a11) x := by
  obtain ⟨S, f0, f1, f2, D⟩ := R
  have G : ∀ (pl hd : Int32) (a7 a8 a9 a10 : Nat → Int32), qd_code 17 w0 w1 w2 a8 a9 a10 → ∃ n, wX_feed_29 post n 0 4 1 1 pl (nI 17) hd ac sc a1 a2 a3 a4 a5 a6 a7 a8 a9 a10 (upd a11 41 (qd_sat x.toInt64).toInt32) := by
    intro pl hd a7 a8 a9 a10 h
    exact qd_run h (by rw [pk_un (by decide)]; exact hp) (by rw [pk_un (by decide)]; exact hq) (by rw [pk_us]; exact qd_satS hx) (fun v c hc => H _ _ _ _ _ _ _ _ _ _ _ ⟨S, f0, f1, f2, Or.inr ⟨rfl, rfl, rfl, h⟩⟩ hc)
  unfold wpX_feed
  rcases D with rfl | ⟨rfl, rfl, rfl, h⟩
  · exact qd_compile3 S f0 f1 f2 (fun b7 b8 b9 b10 hb => br_f (by decide) (qd_saturated (nm_e (G _ _ _ _ _ _ hb))))
  · exact qd_compile1 (br_f (by decide) (qd_saturated (nm_e (G _ _ _ _ _ _ h))))
end
end
section
/-! ===== 6. repeat ===== -/
section
variable {nc cp sd pl ce hd sc : Int32} {ac : Int64} {a1 a2 a3 a4 a5 a6 a7 a8 a9 a10 a11 : Nat → Int32}
theorem qd_27 {post : Int32 → St2 → Prop} {w0 w1 w2 x : Int32} {z : Nat} (hx : qd_sh x) (hz : z ≤ 40) (H : ∀ (cp sd pl ce hd : Int32) (ac : Int64) (a7 a8 a9 a10 a11 : Nat → Int32), qd_rdy w0 w1 w2 cp sd ce a1 a2 a4 a5 a6 a8 a9 a10 → (2 ≤ z → a11 0 = qd_rd (w0.toInt64 * x.toInt64 + w1.toInt64 * x.toInt64 + w2.toInt64 * x.toInt64)) → post (nI z) (4, cp, sd, pl, ce, hd, ac, nI (4 + z), a1, a2, a3, a4, a5, a6, a7, a8, a9, a10, a11)) : ∀ (c j : Nat) (cp sd pl ce hd : Int32) (ac : Int64) (a7 a8 a9 a10 a11 : Nat → Int32), j + c = z → qd_rdy w0 w1 w2 cp sd ce a1 a2 a4 a5 a6 a8 a9 a10 → a11 22 = x → (1 ≤ j → a11 23 = x) → (2 ≤ j → a11 0 = qd_rd (w0.toInt64 * x.toInt64 + w1.toInt64 * x.toInt64 + w2.toInt64 * x.toInt64)) → wX_repeat_27 post x (nI z) (c + 1) (nI j) (nI j) 4 cp sd pl ce hd ac (nI (4 + j)) a1 a2 a3 a4 a5 a6 a7 a8 a9 a10 a11 := by
  intro c
  induction c with
  | zero =>
    intro j cp sd pl ce hd ac a7 a8 a9 a10 a11 hj R h22 h23 h0
    have e : j = z := by omega
    subst e
    exact br_t (nI_le (by omega) (by omega)) (H _ _ _ _ _ _ _ _ _ _ _ R h0)
  | succ c ih =>
    intro j cp sd pl ce hd ac a7 a8 a9 a10 a11 hj R h22 h23 h0
    refine br_f (nI_ge (by omega) (by omega)) (qd_feed R hx h22 rfl (fun cp' sd' pl' ce' hd' ac' b7 b8 b9 b10 b11 R' C => br_f (by decide) (nm_r (nI_1 j) (nm_r (nI_1 j) ?_))))
    rw [nI_1]
    obtain ⟨c0, _, _, _, c22, c23⟩ := C
    refine ih (j + 1) _ _ _ _ _ _ _ _ _ _ _ (by omega) R' c22 (fun _ => c23) (fun h2 => ?_)
    rw [c0, h23 (by omega)]
/-- an int held to 0 .. 40 -/
def qd_clip (m : Int32) (z : Nat) : Prop := (m = nI z ∧ z ≤ 40) ∨ (0 ≤ m ∧ ¬ m ≤ 40 ∧ z = 40) ∨ (¬ 0 ≤ m ∧ z = 0)
theorem qd_clip40 {m : Int32} {z : Nat} (h : qd_clip m z) : z ≤ 40 := by
  rcases h with ⟨_, h⟩ | ⟨_, _, h⟩ | ⟨_, h⟩ <;> omega
theorem qd_repeat {post : Int32 → St2 → Prop} {w0 w1 w2 x m : Int32} {z : Nat} (hm : qd_clip m z) (hx : qd_sh x) (R : qd_rdy w0 w1 w2 cp sd ce a1 a2 a4 a5 a6 a8 a9 a10) (h22 : a11 22 = x) (H : ∀ (cp sd pl ce hd : Int32) (ac : Int64) (a7 a8 a9 a10 a11 : Nat → Int32), qd_rdy w0 w1 w2 cp sd ce a1 a2 a4 a5 a6 a8 a9 a10 → (2 ≤ z → a11 0 = qd_rd (w0.toInt64 * x.toInt64 + w1.toInt64 * x.toInt64 + w2.toInt64 * x.toInt64)) → post (nI z) (4, cp, sd, pl, ce, hd, ac, nI (4 + z), a1, a2, a3, a4, a5, a6, a7, a8, a9, a10, a11)) : wpX_repeat post (4, cp, sd, pl, ce, hd, ac, nI 4, a1, a2, a3, a4, a5, a6, a7, a8, a9, a10, a11) x m := by
  have L := qd_27 hx (qd_clip40 hm) H z 0 cp sd pl ce hd ac a7 a8 a9 a10 a11 (by omega) R h22 (fun h => absurd h (by omega)) (fun h => absurd h (by omega))
  rcases hm with ⟨rfl, h⟩ | ⟨h, g, rfl⟩ | ⟨h, rfl⟩
  · exact br_t (nI_pos' (by omega)) (br_t (nI_le (b := 40) h (by omega)) ⟨z + 1, L⟩)
  · exact br_t h (br_f g ⟨41, L⟩)
  · exact br_f h ⟨1, L⟩
end
end
section
/-! ===== 7. the law ===== -/
theorem qd_word {post : Int32 → Prop} {v : Int64} {i : Int32} (H : ∀ x, qd_sh x → post x) : wpL_word post () v i := H _ (qd_sh16 _)
theorem qd_cell {post : Int32 → Prop} {L i : Nat} {xs : Nat → Int32} (hL : L ≤ 5) (hi : i ≤ 4) (H : ∀ v, post v) : wpL_cellAt post L xs () (nI i) :=
  pk_le L i (fun _ => H 0) (fun z => ⟨pk_in i L z, H _⟩)
theorem qd_src4 {a1 a2 a4 a5 : Nat → Int32} (S : qd_src 3 a1 a2 a4 a5) : qd_src 4 a1 a2 (upd a4 0 (nI (3 + 1))) (upd a5 3 (nI 0)) := by
  obtain ⟨k0, k1, k2, k3, l0, l1, l2, l3, _, k5⟩ := S
  refine ⟨k0, k1, k2, k3, l0, l1, l2, l3, pk_us, fun i hi => ?_⟩
  by_cases e : i = 3
  · rw [e, pk_us]
  · rw [pk_un e]
    exact k5 i (by omega)
section
variable {nc cp sd pl ce hd sc : Int32} {ac : Int64} {a1 a2 a3 a4 a5 a6 a7 a8 a9 a10 a11 : Nat → Int32}
variable {post : Int32 → St0 → Prop} {mc ms kc ks : Nat} {w0 w1 w2 : Int32}
/-- the sum is made to name itself: no sample is taken any more -/
theorem qd_342 (R : qd_rdy w0 w1 w2 cp sd ce a1 a2 a4 a5 a6 a8 a9 a10) (H : post 1 ()) : wL_lawOf_342 post mc ms kc ks 4 cp sd pl ce hd ac sc a1 a2 a3 a4 a5 a6 a7 a8 a9 a10 a11 := by
  have S := R.1
  have T := qd_src4 S
  obtain ⟨k0, k1, k2, k3, l0, l1, l2, l3, k4, k5⟩ := id S
  unfold wL_lawOf_342
  refine qd_tap (N := 4) (t := 3) (a := 0) (by decide) (by decide) (by decide) (by unfold qd_sh; decide) k0 k4 (by decide) (fun c hc => br_t rfl ?_)
  unfold wpX_sound
  refine qd_compile4 T ⟨rfl, br_t rfl ?_⟩
  unfold wpX_feed
  refine qd_compile1 (br_t rfl (br_t rfl ?_))
  exact br_t rfl (qd_value0 (i := 1) (by decide) (br_t rfl H))
theorem qd_275 {x4 p z0 : Int32} {z : Nat} (hz : z0 = nI z) (hm : qd_clip x4 z) (h0 : qd_sh w0) (h1 : qd_sh w1) (h2 : qd_sh w2) (hp : qd_sh p) (R : qd_rdy w0 w1 w2 cp sd ce a1 a2 a4 a5 a6 a8 a9 a10) (h22 : a11 22 = p) (H : post 1 ()) : wL_lawOf_275 post mc ms x4 w0 w1 w2 p z0 kc ks 4 cp sd pl ce hd ac (nI 4) a1 a2 a3 a4 a5 a6 a7 a8 a9 a10 a11 := by
  subst hz
  have hz := qd_clip40 hm
  unfold wL_lawOf_275
  refine qd_repeat hm hp R h22 (fun cp sd pl ce hd ac a7 a8 a9 a10 a11 R' hv => br_t rfl ?_)
  refine br_t (nI_add 4 z).symm (pk_lt z 2 (fun _ => qd_342 R' H) (fun g => nm_e (qd_value (i := 0) (by decide) (nI_ne0 (by omega) (by omega)) (qd_round (br_t ?_ (qd_342 R' H))))))
  rw [hv g, qd_dist h0 h1 h2]
theorem qd_136 {x2 : Int64} {x4 : Int32} (h0 : qd_sh w0) (h1 : qd_sh w1) (h2 : qd_sh w2) (H : post 1 ()) : ∀ (c k : Nat) (p q : Int32) (cp sd pl ce hd : Int32) (ac : Int64) (a7 a8 a9 a10 a11 : Nat → Int32), k + c = 4 → qd_rdy w0 w1 w2 cp sd ce a1 a2 a4 a5 a6 a8 a9 a10 → qd_sh p → a11 22 = p → a11 23 = q → wL_lawOf_136 post mc ms x2 x4 w0 w1 w2 kc ks (c + 1) p q (nI k) 4 cp sd pl ce hd ac (nI k) a1 a2 a3 a4 a5 a6 a7 a8 a9 a10 a11 := by
  intro c
  induction c with
  | zero =>
    intro k p q cp sd pl ce hd ac a7 a8 a9 a10 a11 hk R hp h22 h23
    have e : k = 4 := by omega
    subst e
    refine br_t (by decide) (br_c (fun g => br_c (fun g2 => ?_) (fun g2 => ?_)) (fun g => ?_))
    · obtain ⟨z, hz, e⟩ := nI_of2 (x := x4) (M := 40) (n := 40) (by decide) (Int32.not_lt.mpr g) g2
      exact qd_275 e (Or.inl ⟨e, hz⟩) h0 h1 h2 hp R h22 H
    · exact qd_275 (z := 40) rfl (Or.inr (Or.inl ⟨g, g2, rfl⟩)) h0 h1 h2 hp R h22 H
    · exact qd_275 (z := 0) rfl (Or.inr (Or.inr ⟨g, rfl⟩)) h0 h1 h2 hp R h22 H
  | succ c ih =>
    intro k p q cp sd pl ce hd ac a7 a8 a9 a10 a11 hk R hp h22 h23
    refine br_f (nI_ge (b := 4) (by omega) (by omega)) (qd_word (fun x hx => qd_feed R hx h22 h23 (fun cp' sd' pl' ce' hd' ac' b7 b8 b9 b10 b11 R' C => br_f (by decide) (nm_e ?_))))
    rw [nI_1]
    have hs : ¬ nI (k + 1) = 0 := nI_ne0 (by omega) (by omega)
    obtain ⟨c0, c1, c2, c3, c22, c23⟩ := C
    refine qd_value (i := 0) (by decide) hs (qd_round (br_t c0 ?_))
    refine qd_value (i := 1) (by decide) hs (br_t c1 ?_)
    refine qd_value (i := 2) (by decide) hs (br_t c2 ?_)
    refine qd_value (i := 3) (by decide) hs (br_t c3 (nm_e ?_))
    exact ih (k + 1) x p _ _ _ _ _ _ _ _ _ _ _ (by omega) R' hx c22 c23
theorem qd_lawOf {p0 p1 : Int64} {p2 : Int32} (H : post 1 ()) : wpL_lawOf post 378 6032 () p0 p1 p2 := by
  refine ⟨by decide, by decide, 377, 6013, by decide, by decide, by decide, by decide, by decide, by decide, by decide, by decide, by decide, by decide, by decide, by decide, by decide, by decide, by decide, by decide, by decide, by decide, by decide, by decide, by decide, by decide, by decide, by decide, ?_⟩
  refine qd_word (fun w0 h0 => qd_word (fun w1 h1 => qd_word (fun w2 h2 => ?_)))
  refine qd_node10 (k := 0) (by decide) (fun c1 _ => br_t rfl ?_)
  refine qd_tap (N := 1) (t := 0) (a := 1) (by decide) (by decide) (by decide) h0 rfl rfl (by decide) (fun c2 _ => br_t rfl ?_)
  refine qd_tap (N := 1) (t := 1) (a := 2) (by decide) (by decide) (by decide) h1 rfl rfl (by decide) (fun c3 _ => br_t rfl ?_)
  refine qd_tap (N := 1) (t := 2) (a := 3) (by decide) (by decide) (by decide) h2 rfl rfl (by decide) (fun c4 _ => br_t rfl ?_)
  refine qd_node0 (k := 1) (by decide) (fun c5 _ => br_t rfl ?_)
  refine qd_node2 (k := 2) (a := 1) (by decide) (by decide) (fun c6 _ => br_t rfl ?_)
  refine qd_node2 (k := 3) (a := 2) (by decide) (by decide) (fun c hc => br_t rfl ⟨5, ?_⟩)
  refine qd_136 h0 h1 h2 H 4 0 0 0 _ _ _ _ _ _ _ _ _ _ _ (by decide) ⟨⟨rfl, rfl, rfl, rfl, rfl, rfl, rfl, rfl, rfl, ?_⟩, rfl, rfl, rfl, Or.inl rfl⟩ qd_sh0 (hc 22 (by decide)) (hc 23 (by decide))
  intro i hi
  have e : i = 0 ∨ i = 1 ∨ i = 2 := by omega
  rcases e with rfl | rfl | rfl <;> rfl
end
theorem i_vc (xs : Nat → Int32) (L : Nat) (hL : L ≤ 5) : wpL_law (fun r => r = 1) L xs := by
  refine qd_cell (i := 0) hL (by decide) (fun r1 => ?_)
  refine qd_cell (i := 1) hL (by decide) (fun r2 => ?_)
  refine qd_cell (i := 2) hL (by decide) (fun r3 => ?_)
  refine qd_cell (i := 3) hL (by decide) (fun r4 => ?_)
  refine qd_cell (i := 4) hL (by decide) (fun r5 => ?_)
  exact ⟨378, 6032, by decide, by decide, qd_lawOf rfl⟩
end
