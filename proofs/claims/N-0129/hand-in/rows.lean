section
/-! SuperOpt: the pure run of a straight-line program, and small rows -/
theorem so_us {f : Nat → Int32} {k : Nat} {x : Int32} : upd f k x k = x := if_pos rfl
theorem so_un {f : Nat → Int32} {k j : Nat} {x : Int32} (h : j ≠ k) : upd f k x j = f j := if_neg h
theorem so_uu {f : Nat → Int32} {k : Nat} {x y : Int32} : upd (upd f k x) k y = upd f k y := by
  funext j
  by_cases h : j = k
  · subst h; rw [so_us, so_us]
  · rw [so_un h, so_un h, so_un h]
theorem so_mul (a b : Nat) : nI a * nI b = nI (a * b) := (Int32.ofNat_mul a b).symm
theorem so_succ {f d : Nat} (h : d < f) : ∃ g, f = g + 1 ∧ d ≤ g := ⟨f - 1, by omega, by omega⟩
/-- the mask of a width -/
def so_mk (w : Nat) : Int32 := ((1 : Int32) <<< (nI w &&& 31)) - 1
/-- input k of a packed word -/
def so_in (w : Nat) (p : Int32) (k : Nat) : Int32 := ((p.toUInt32 >>> ((nI k * nI w).toUInt32 &&& Int32.toUInt32 31)).toInt32) &&& so_mk w
/-- one operation -/
def so_op (o x y : Int32) : Int32 :=
  if o = 0 then x + y else if o = 1 then x - y else if o = 2 then x &&& y else if o = 3 then x ||| y else if o = 4 then x ^^^ y
  else if o = 5 then x ^^^ (-1) else if o = 6 then -x else x <<< ((1 : Int32) &&& 31)
/-- the slots behind i instructions -/
def so_sl (ni w : Nat) (p : Int32) (O A B : Nat → Int32) : Nat → Nat → Int32
  | 0 => so_in w p
  | i + 1 => upd (so_sl ni w p O A B i) (ni + i) (so_op (O i) (so_sl ni w p O A B i (A i).toNatClampNeg) (so_sl ni w p O A B i (B i).toNatClampNeg) &&& so_mk w)
/-- the answer of a program of len instructions -/
def so_run (ni w : Nat) (p : Int32) (O A B : Nat → Int32) (len : Nat) : Int32 := so_sl ni w p O A B len (ni + len - 1)
theorem so_sl_c {ni w : Nat} {p : Int32} {O A B O' A' B' : Nat → Int32} : ∀ len : Nat, (∀ i, i < len → O' i = O i ∧ A' i = A i ∧ B' i = B i) → so_sl ni w p O' A' B' len = so_sl ni w p O A B len := by
  intro len
  induction len with
  | zero => intro _; rfl
  | succ k ih =>
    intro h
    have e := ih (fun i hi => h i (by omega))
    obtain ⟨h1, h2, h3⟩ := h k (by omega)
    show upd _ _ _ = upd _ _ _
    rw [e, h1, h2, h3]
theorem so_run_c {ni w : Nat} {p : Int32} {O A B O' A' B' : Nat → Int32} {len : Nat} (h : ∀ i, i < len → O' i = O i ∧ A' i = A i ∧ B' i = B i) : so_run ni w p O' A' B' len = so_run ni w p O A B len := by
  unfold so_run
  rw [so_sl_c len h]
/-- operands within what is written -/
def so_ok (ni len : Nat) (A B : Nat → Int32) : Prop := ∀ i, i < len → ∃ a b : Nat, a < ni + i ∧ b < ni + i ∧ A i = nI a ∧ B i = nI b
theorem so_ok_c {ni len : Nat} {A B A' B' : Nat → Int32} (h : so_ok ni len A B) (e : ∀ i, i < len → A' i = A i ∧ B' i = B i) : so_ok ni len A' B' := by
  intro i hi
  obtain ⟨a, b, ha, hb, ea, eb⟩ := h i hi
  exact ⟨a, b, ha, hb, (e i hi).1.trans ea, (e i hi).2.trans eb⟩
theorem so_ok_le {ni len l : Nat} {A B : Nat → Int32} (h : so_ok ni len A B) (hl : l ≤ len) : so_ok ni l A B := fun i hi => h i (by omega)
theorem so_ok0 {ni : Nat} (h : 1 ≤ ni) : so_ok ni 4 (fun _ => 0) (fun _ => 0) := fun i _ => ⟨0, 0, by omega, by omega, rfl, rfl⟩
theorem so_okA {ni j a : Nat} {A B : Nat → Int32} (h : so_ok ni 4 A B) (ha : a < ni + j) : so_ok ni 4 (upd A j (nI a)) B := by
  intro i hi
  obtain ⟨c, d, hc, hd, ec, ed⟩ := h i hi
  by_cases e : i = j
  · subst e; exact ⟨a, d, ha, hd, so_us, ed⟩
  · exact ⟨c, d, hc, hd, (so_un e).trans ec, ed⟩
theorem so_okB {ni j b : Nat} {A B : Nat → Int32} (h : so_ok ni 4 A B) (hb : b < ni + j) : so_ok ni 4 A (upd B j (nI b)) := by
  intro i hi
  obtain ⟨c, d, hc, hd, ec, ed⟩ := h i hi
  by_cases e : i = j
  · subst e; exact ⟨c, b, hc, hb, ec, so_us⟩
  · exact ⟨c, d, hc, hd, ec, (so_un e).trans ed⟩
theorem so_okP {ni len a b : Nat} {A B : Nat → Int32} (h : so_ok ni len A B) (ha : a < ni + len) (hb : b < ni + len) : so_ok ni (len + 1) (upd A len (nI a)) (upd B len (nI b)) := by
  intro i hi
  by_cases e : i = len
  · subst e; exact ⟨a, b, ha, hb, so_us, so_us⟩
  · obtain ⟨c, d, hc, hd, ec, ed⟩ := h i (by omega)
    exact ⟨c, d, hc, hd, (so_un e).trans ec, (so_un e).trans ed⟩
/-- nothing stands behind the fourth row -/
def so_z (a : Nat → Int32) : Prop := ∀ j, 4 ≤ j → a j = 0
theorem so_z0 : so_z (fun _ => 0) := fun _ _ => rfl
theorem so_zU {a : Nat → Int32} {j : Nat} {x : Int32} (h : so_z a) (hj : j < 4) : so_z (upd a j x) := fun i hi => (so_un (by omega)).trans (h i hi)
theorem so_opX {o x y : Int32} {K : Int32 → Prop} (h : K (so_op o x y)) :
    ((o = 0 → (∀ z : Int32, z = x + y → K z)) ∧ (¬ o = 0 → ((o = 1 → (∀ z : Int32, z = x - y → K z)) ∧ (¬ o = 1 → ((o = 2 → (∀ z : Int32, z = x &&& y → K z)) ∧ (¬ o = 2 → ((o = 3 → (∀ z : Int32, z = x ||| y → K z)) ∧ (¬ o = 3 → ((o = 4 → (∀ z : Int32, z = x ^^^ y → K z)) ∧ (¬ o = 4 → ((o = 5 → (∀ z : Int32, z = x ^^^ (-1) → K z)) ∧ (¬ o = 5 → ((o = 6 → (∀ z : Int32, z = -x → K z)) ∧ (¬ o = 6 → (∀ z : Int32, z = x <<< ((1 : Int32) &&& 31) → K z))))))))))))))) := by
  unfold so_op at h
  refine br_c (fun c => by rw [if_pos c] at h; exact nm_e h) fun c0 => ?_
  rw [if_neg c0] at h
  refine br_c (fun c => by rw [if_pos c] at h; exact nm_e h) fun c1 => ?_
  rw [if_neg c1] at h
  refine br_c (fun c => by rw [if_pos c] at h; exact nm_e h) fun c2 => ?_
  rw [if_neg c2] at h
  refine br_c (fun c => by rw [if_pos c] at h; exact nm_e h) fun c3 => ?_
  rw [if_neg c3] at h
  refine br_c (fun c => by rw [if_pos c] at h; exact nm_e h) fun c4 => ?_
  rw [if_neg c4] at h
  refine br_c (fun c => by rw [if_pos c] at h; exact nm_e h) fun c5 => ?_
  rw [if_neg c5] at h
  refine br_c (fun c => by rw [if_pos c] at h; exact nm_e h) fun c6 => ?_
  rw [if_neg c6] at h
  exact nm_e h
theorem so_op_e {o x y : Int32} (h0 : ¬ o = 0) (h1 : ¬ o = 1) (h2 : ¬ o = 2) (h3 : ¬ o = 3) (h4 : ¬ o = 4) (h5 : ¬ o = 5) (h6 : ¬ o = 6) : so_op o x y = x <<< ((1 : Int32) &&& 31) := by
  unfold so_op
  rw [if_neg h0, if_neg h1, if_neg h2, if_neg h3, if_neg h4, if_neg h5, if_neg h6]
theorem so_op_n {o x y : Int32} (h : o < 0) : so_op o x y = x <<< ((1 : Int32) &&& 31) := by
  refine so_op_e ?_ ?_ ?_ ?_ ?_ ?_ ?_ <;> (intro e; subst e; exact absurd h (by decide))
theorem so_op_p {o x y : Int32} (h : 6 < o) : so_op o x y = x <<< ((1 : Int32) &&& 31) := by
  refine so_op_e ?_ ?_ ?_ ?_ ?_ ?_ ?_ <;> (intro e; subst e; exact absurd h (by decide))
theorem so_opY {o x y : Int32} {K : Int32 → Prop} (h : K (so_op o x y)) :
    ((o < 0 → (∀ z : Int32, z = x <<< ((1 : Int32) &&& 31) → K z)) ∧ (¬ o < 0 → ((6 < o → (∀ z : Int32, z = x <<< ((1 : Int32) &&& 31) → K z)) ∧ (¬ 6 < o → ((o = 0 → (∀ z : Int32, z = x + y → K z)) ∧ (¬ o = 0 → ((o = 1 → (∀ z : Int32, z = x - y → K z)) ∧ (¬ o = 1 → ((o = 2 → (∀ z : Int32, z = x &&& y → K z)) ∧ (¬ o = 2 → ((o = 3 → (∀ z : Int32, z = x ||| y → K z)) ∧ (¬ o = 3 → ((o = 4 → (∀ z : Int32, z = x ^^^ y → K z)) ∧ (¬ o = 4 → ((o = 5 → (∀ z : Int32, z = x ^^^ (-1) → K z)) ∧ (¬ o = 5 → ((o = 6 → (∀ z : Int32, z = -x → K z)) ∧ (¬ o = 6 → True)))))))))))))))))) := by
  refine br_c (fun c => nm_e (by rw [so_op_n c] at h; exact h)) fun _ => ?_
  refine br_c (fun c => nm_e (by rw [so_op_p c] at h; exact h)) fun _ => ?_
  obtain ⟨k0, m0⟩ := so_opX h
  refine br_c k0 fun c0 => ?_
  obtain ⟨k1, m1⟩ := m0 c0
  refine br_c k1 fun c1 => ?_
  obtain ⟨k2, m2⟩ := m1 c1
  refine br_c k2 fun c2 => ?_
  obtain ⟨k3, m3⟩ := m2 c2
  refine br_c k3 fun c3 => ?_
  obtain ⟨k4, m4⟩ := m3 c3
  refine br_c k4 fun c4 => ?_
  obtain ⟨k5, m5⟩ := m4 c4
  refine br_c k5 fun c5 => ?_
  obtain ⟨k6, m6⟩ := m5 c5
  exact br_c k6 fun _ => True.intro
/-- the number of packed inputs -/
theorem so_tot {w ni : Nat} (h : w * ni ≤ 8) : (1 : Int32) <<< ((nI w * nI ni) &&& 31) = nI (2 ^ (w * ni)) := by
  rw [so_mul]
  have h9 : w * ni < 9 := by omega
  revert h9
  generalize w * ni = m
  revert m
  decide +kernel
theorem so_tot_le {m : Nat} (h : m ≤ 8) : 2 ^ m ≤ 256 := Nat.pow_le_pow_right (n := 2) (by decide) h
end
section
/-! the walks of run, on both sides, against the pure run -/
section
variable {ml w ni ts cl len : Nat} {st ex p : Int32} {tO tA tB cO cA cB tb yO yA yB : Nat → Int32}
theorem so_x43_t {post : Int32 → SX → Prop} (hn : 1 ≤ ni) (hn3 : ni ≤ 3) (hl : len ≤ 4) (ok : so_ok ni len tA tB) (hp : ∀ s, post (so_run ni w p tO tA tB len) ((nI ml), (nI w), (nI ni), (so_mk w), st, (nI ts), ex, (nI cl), tO, tA, tB, cO, cA, cB, s, tb)) :
    ∀ (d i fuel : Nat) (sl : Nat → Int32), i + d = len → d < fuel → (∀ j, j < ni + i → sl j = so_sl ni w p tO tA tB i j) → wX_run__tOp_tA_tB_43 post (nI len) (nI ml) (nI w) (nI ni) (so_mk w) st (nI ts) ex (nI cl) fuel (nI i) tO tA tB cO cA cB sl tb := by
  intro d
  induction d with
  | zero =>
    intro i fuel sl hi hf hs
    obtain ⟨f, rfl, -⟩ := so_succ hf
    obtain ⟨q, hq⟩ : ∃ q, ni + len = q + 1 := ⟨ni + len - 1, by omega⟩
    have e1 : nI ni + nI len - 1 = nI q := by rw [nI_add, hq, nI_pred]
    have e0 : i = len := by omega
    subst e0
    have e2 : sl (nI q).toNatClampNeg = so_run ni w p tO tA tB i := by
      rw [nI_clamp (by omega), hs q (by omega)]
      unfold so_run
      rw [hq]
      rfl
    have hq2 := hp sl
    rw [← e2] at hq2
    rw [wX_run__tOp_tA_tB_43]
    refine br_t (nI_le (by omega) (by omega)) ?_
    rw [e1]
    exact And.intro (vp_in_nI (by omega) (by omega)) hq2
  | succ d ih =>
    intro i fuel sl hi hf hs
    obtain ⟨f, rfl, hf⟩ := so_succ hf
    obtain ⟨a, b, ha, hb, ea, eb⟩ := ok i (by omega)
    have ci : (nI i).toNatClampNeg = i := nI_clamp (by omega)
    have vi : vp_in (nI i) 4 := vp_in_nI (by omega) (by omega)
    have vA : vp_in (tA i) 7 := by rw [ea]; exact vp_in_nI (by omega) (by omega)
    have vB : vp_in (tB i) 7 := by rw [eb]; exact vp_in_nI (by omega) (by omega)
    have hA : (tA i).toNatClampNeg < ni + i := by rw [ea, nI_clamp (by omega)]; exact ha
    have hB : (tB i).toNatClampNeg < ni + i := by rw [eb, nI_clamp (by omega)]; exact hb
    rw [wX_run__tOp_tA_tB_43]
    refine br_f (nI_ge (by omega) (by omega)) ?_
    rw [ci]
    refine ⟨vi, vA, nm_r (hs _ hA) ⟨vi, vB, nm_r (hs _ hB) ⟨vi, nm_e ?_⟩⟩⟩
    refine so_opX (K := fun z => wX_run__tOp_tA_tB_193 post (wX_run__tOp_tA_tB_43 post (nI len) (nI ml) (nI w) (nI ni) (so_mk w) st (nI ts) ex (nI cl) f) (nI len) (nI i) z (nI ml) (nI w) (nI ni) (so_mk w) st (nI ts) ex (nI cl) tO tA tB cO cA cB sl tb) ?_
    unfold wX_run__tOp_tA_tB_193
    rw [nI_add]
    refine ⟨vp_in_nI (by omega) (by omega), nm_e (nm_r (nI_1 i) ?_)⟩
    rw [nI_clamp (by omega)]
    refine ih (i + 1) f _ (by omega) (by omega) ?_
    intro j hj
    show upd sl (ni + i) _ j = upd _ (ni + i) _ j
    by_cases e : j = ni + i
    · subst e; rw [so_us, so_us]
    · rw [so_un e, so_un e]; exact hs j (by omega)
theorem so_x3_t {post : Int32 → SX → Prop} (hn : 1 ≤ ni) (hn3 : ni ≤ 3) (hl : len ≤ 4) (ok : so_ok ni len tA tB) (hp : ∀ s, post (so_run ni w p tO tA tB len) ((nI ml), (nI w), (nI ni), (so_mk w), st, (nI ts), ex, (nI cl), tO, tA, tB, cO, cA, cB, s, tb)) :
    ∀ (d i fuel : Nat) (sl : Nat → Int32), i + d = ni → d < fuel → (∀ j, j < i → sl j = so_in w p j) → wX_run__tOp_tA_tB_3 post (nI len) p (nI ml) (nI w) (nI ni) (so_mk w) st (nI ts) ex (nI cl) fuel (nI i) tO tA tB cO cA cB sl tb := by
  intro d
  induction d with
  | zero =>
    intro i fuel sl hi hf hs
    obtain ⟨f, rfl, -⟩ := so_succ hf
    rw [wX_run__tOp_tA_tB_3]
    refine br_t (nI_le (by omega) (by omega)) ⟨len + 1, ?_⟩
    exact so_x43_t hn hn3 hl ok hp len 0 (len + 1) sl (by omega) (by omega) (fun j hj => hs j (by omega))
  | succ d ih =>
    intro i fuel sl hi hf hs
    obtain ⟨f, rfl, hf⟩ := so_succ hf
    have ci : (nI i).toNatClampNeg = i := nI_clamp (by omega)
    rw [wX_run__tOp_tA_tB_3]
    refine br_f (nI_ge (by omega) (by omega)) ?_
    rw [ci]
    refine ⟨vp_in_nI (by omega) (by omega), nm_e (nm_r (nI_1 i) ?_)⟩
    refine ih (i + 1) f _ (by omega) (by omega) ?_
    intro j hj
    by_cases e : j = i
    · subst e; rw [so_us]; rfl
    · rw [so_un e]; exact hs j (by omega)
theorem so_xrun_t {post : Int32 → SX → Prop} {sl : Nat → Int32} (hn : 1 ≤ ni) (hn3 : ni ≤ 3) (hl : len ≤ 4) (ok : so_ok ni len tA tB) (hp : ∀ s, post (so_run ni w p tO tA tB len) ((nI ml), (nI w), (nI ni), (so_mk w), st, (nI ts), ex, (nI cl), tO, tA, tB, cO, cA, cB, s, tb)) :
    wpX_run__tOp_tA_tB post ((nI ml), (nI w), (nI ni), (so_mk w), st, (nI ts), ex, (nI cl), tO, tA, tB, cO, cA, cB, sl, tb) (nI len) p :=
  ⟨ni + 1, so_x3_t hn hn3 hl ok hp ni 0 (ni + 1) sl (by omega) (by omega) (fun j hj => absurd hj (by omega))⟩
theorem so_x43_c {post : Int32 → SX → Prop} (hn : 1 ≤ ni) (hn3 : ni ≤ 3) (hl : len ≤ 4) (ok : so_ok ni len cA cB) (hp : ∀ s, post (so_run ni w p cO cA cB len) ((nI ml), (nI w), (nI ni), (so_mk w), st, (nI ts), ex, (nI cl), tO, tA, tB, cO, cA, cB, s, tb)) :
    ∀ (d i fuel : Nat) (sl : Nat → Int32), i + d = len → d < fuel → (∀ j, j < ni + i → sl j = so_sl ni w p cO cA cB i j) → wX_run__cOp_cA_cB_43 post (nI len) (nI ml) (nI w) (nI ni) (so_mk w) st (nI ts) ex (nI cl) fuel (nI i) tO tA tB cO cA cB sl tb := by
  intro d
  induction d with
  | zero =>
    intro i fuel sl hi hf hs
    obtain ⟨f, rfl, -⟩ := so_succ hf
    obtain ⟨q, hq⟩ : ∃ q, ni + len = q + 1 := ⟨ni + len - 1, by omega⟩
    have e1 : nI ni + nI len - 1 = nI q := by rw [nI_add, hq, nI_pred]
    have e0 : i = len := by omega
    subst e0
    have e2 : sl (nI q).toNatClampNeg = so_run ni w p cO cA cB i := by
      rw [nI_clamp (by omega), hs q (by omega)]
      unfold so_run
      rw [hq]
      rfl
    have hq2 := hp sl
    rw [← e2] at hq2
    rw [wX_run__cOp_cA_cB_43]
    refine br_t (nI_le (by omega) (by omega)) ?_
    rw [e1]
    exact And.intro (vp_in_nI (by omega) (by omega)) hq2
  | succ d ih =>
    intro i fuel sl hi hf hs
    obtain ⟨f, rfl, hf⟩ := so_succ hf
    obtain ⟨a, b, ha, hb, ea, eb⟩ := ok i (by omega)
    have ci : (nI i).toNatClampNeg = i := nI_clamp (by omega)
    have vi : vp_in (nI i) 4 := vp_in_nI (by omega) (by omega)
    have vA : vp_in (cA i) 7 := by rw [ea]; exact vp_in_nI (by omega) (by omega)
    have vB : vp_in (cB i) 7 := by rw [eb]; exact vp_in_nI (by omega) (by omega)
    have hA : (cA i).toNatClampNeg < ni + i := by rw [ea, nI_clamp (by omega)]; exact ha
    have hB : (cB i).toNatClampNeg < ni + i := by rw [eb, nI_clamp (by omega)]; exact hb
    rw [wX_run__cOp_cA_cB_43]
    refine br_f (nI_ge (by omega) (by omega)) ?_
    rw [ci]
    refine ⟨vi, vA, nm_r (hs _ hA) ⟨vi, vB, nm_r (hs _ hB) ⟨vi, nm_e ?_⟩⟩⟩
    refine so_opX (K := fun z => wX_run__cOp_cA_cB_193 post (wX_run__cOp_cA_cB_43 post (nI len) (nI ml) (nI w) (nI ni) (so_mk w) st (nI ts) ex (nI cl) f) (nI len) (nI i) z (nI ml) (nI w) (nI ni) (so_mk w) st (nI ts) ex (nI cl) tO tA tB cO cA cB sl tb) ?_
    unfold wX_run__cOp_cA_cB_193
    rw [nI_add]
    refine ⟨vp_in_nI (by omega) (by omega), nm_e (nm_r (nI_1 i) ?_)⟩
    rw [nI_clamp (by omega)]
    refine ih (i + 1) f _ (by omega) (by omega) ?_
    intro j hj
    show upd sl (ni + i) _ j = upd _ (ni + i) _ j
    by_cases e : j = ni + i
    · subst e; rw [so_us, so_us]
    · rw [so_un e, so_un e]; exact hs j (by omega)
theorem so_x3_c {post : Int32 → SX → Prop} (hn : 1 ≤ ni) (hn3 : ni ≤ 3) (hl : len ≤ 4) (ok : so_ok ni len cA cB) (hp : ∀ s, post (so_run ni w p cO cA cB len) ((nI ml), (nI w), (nI ni), (so_mk w), st, (nI ts), ex, (nI cl), tO, tA, tB, cO, cA, cB, s, tb)) :
    ∀ (d i fuel : Nat) (sl : Nat → Int32), i + d = ni → d < fuel → (∀ j, j < i → sl j = so_in w p j) → wX_run__cOp_cA_cB_3 post (nI len) p (nI ml) (nI w) (nI ni) (so_mk w) st (nI ts) ex (nI cl) fuel (nI i) tO tA tB cO cA cB sl tb := by
  intro d
  induction d with
  | zero =>
    intro i fuel sl hi hf hs
    obtain ⟨f, rfl, -⟩ := so_succ hf
    rw [wX_run__cOp_cA_cB_3]
    refine br_t (nI_le (by omega) (by omega)) ⟨len + 1, ?_⟩
    exact so_x43_c hn hn3 hl ok hp len 0 (len + 1) sl (by omega) (by omega) (fun j hj => hs j (by omega))
  | succ d ih =>
    intro i fuel sl hi hf hs
    obtain ⟨f, rfl, hf⟩ := so_succ hf
    have ci : (nI i).toNatClampNeg = i := nI_clamp (by omega)
    rw [wX_run__cOp_cA_cB_3]
    refine br_f (nI_ge (by omega) (by omega)) ?_
    rw [ci]
    refine ⟨vp_in_nI (by omega) (by omega), nm_e (nm_r (nI_1 i) ?_)⟩
    refine ih (i + 1) f _ (by omega) (by omega) ?_
    intro j hj
    by_cases e : j = i
    · subst e; rw [so_us]; rfl
    · rw [so_un e]; exact hs j (by omega)
theorem so_xrun_c {post : Int32 → SX → Prop} {sl : Nat → Int32} (hn : 1 ≤ ni) (hn3 : ni ≤ 3) (hl : len ≤ 4) (ok : so_ok ni len cA cB) (hp : ∀ s, post (so_run ni w p cO cA cB len) ((nI ml), (nI w), (nI ni), (so_mk w), st, (nI ts), ex, (nI cl), tO, tA, tB, cO, cA, cB, s, tb)) :
    wpX_run__cOp_cA_cB post ((nI ml), (nI w), (nI ni), (so_mk w), st, (nI ts), ex, (nI cl), tO, tA, tB, cO, cA, cB, sl, tb) (nI len) p :=
  ⟨ni + 1, so_x3_c hn hn3 hl ok hp ni 0 (ni + 1) sl (by omega) (by omega) (fun j hj => absurd hj (by omega))⟩
theorem so_y51_t {post : Int32 → SY → Prop} (hn : 1 ≤ ni) (hn3 : ni ≤ 3) (hl : len ≤ 4) (ok : so_ok ni len yA yB) (hp : ∀ s, post (so_run ni w p yO yA yB len) ((nI ml), (nI w), (nI ni), st, (nI ts), (nI cl), ex, yO, yA, yB, cO, cA, cB, s)) :
    ∀ (d i fuel : Nat) (vl : Nat → Int32), i + d = len → d < fuel → (∀ j, j < ni + i → vl j = so_sl ni w p yO yA yB i j) → wY_run__top_ta_tb_51 post (nI len) (so_mk w) (nI ml) (nI w) (nI ni) st (nI ts) (nI cl) ex fuel (nI i) yO yA yB cO cA cB vl := by
  intro d
  induction d with
  | zero =>
    intro i fuel vl hi hf hs
    obtain ⟨f, rfl, -⟩ := so_succ hf
    obtain ⟨q, hq⟩ : ∃ q, ni + len = q + 1 := ⟨ni + len - 1, by omega⟩
    have e1 : nI ni + nI len - 1 = nI q := by rw [nI_add, hq, nI_pred]
    have e0 : i = len := by omega
    subst e0
    have e2 : vl (nI q).toNatClampNeg = so_run ni w p yO yA yB i := by
      rw [nI_clamp (by omega), hs q (by omega)]
      unfold so_run
      rw [hq]
      rfl
    have hq2 := hp vl
    rw [← e2] at hq2
    rw [wY_run__top_ta_tb_51]
    refine br_t (nI_le (by omega) (by omega)) ?_
    rw [e1]
    exact And.intro (vp_in_nI (by omega) (by omega)) hq2
  | succ d ih =>
    intro i fuel vl hi hf hs
    obtain ⟨f, rfl, hf⟩ := so_succ hf
    obtain ⟨a, b, ha, hb, ea, eb⟩ := ok i (by omega)
    have ci : (nI i).toNatClampNeg = i := nI_clamp (by omega)
    have vi : vp_in (nI i) 5 := vp_in_nI (by omega) (by omega)
    have vA : vp_in (yA i) 8 := by rw [ea]; exact vp_in_nI (by omega) (by omega)
    have vB : vp_in (yB i) 8 := by rw [eb]; exact vp_in_nI (by omega) (by omega)
    have hA : (yA i).toNatClampNeg < ni + i := by rw [ea, nI_clamp (by omega)]; exact ha
    have hB : (yB i).toNatClampNeg < ni + i := by rw [eb, nI_clamp (by omega)]; exact hb
    rw [wY_run__top_ta_tb_51]
    refine br_f (nI_ge (by omega) (by omega)) ?_
    rw [ci]
    refine ⟨vi, vA, nm_r (hs _ hA) ⟨vi, vB, nm_r (hs _ hB) ⟨vi, nm_e ?_⟩⟩⟩
    refine so_opY (K := fun z => wY_run__top_ta_tb_201 post (wY_run__top_ta_tb_51 post (nI len) (so_mk w) (nI ml) (nI w) (nI ni) st (nI ts) (nI cl) ex f) (nI len) (so_mk w) (nI i) z (nI ml) (nI w) (nI ni) st (nI ts) (nI cl) ex yO yA yB cO cA cB vl) ?_
    unfold wY_run__top_ta_tb_201
    rw [nI_add]
    refine ⟨vp_in_nI (by omega) (by omega), nm_e (nm_r (nI_1 i) ?_)⟩
    rw [nI_clamp (by omega)]
    refine ih (i + 1) f _ (by omega) (by omega) ?_
    intro j hj
    show upd vl (ni + i) _ j = upd _ (ni + i) _ j
    by_cases e : j = ni + i
    · subst e; rw [so_us, so_us]
    · rw [so_un e, so_un e]; exact hs j (by omega)
theorem so_y13_t {post : Int32 → SY → Prop} (hn : 1 ≤ ni) (hn3 : ni ≤ 3) (hl : len ≤ 4) (ok : so_ok ni len yA yB) (hp : ∀ s, post (so_run ni w p yO yA yB len) ((nI ml), (nI w), (nI ni), st, (nI ts), (nI cl), ex, yO, yA, yB, cO, cA, cB, s)) :
    ∀ (d i fuel : Nat) (vl : Nat → Int32), i + d = ni → d < fuel → (∀ j, j < i → vl j = so_in w p j) → wY_run__top_ta_tb_13 post (nI len) p (so_mk w) (nI ml) (nI w) (nI ni) st (nI ts) (nI cl) ex fuel (nI i) yO yA yB cO cA cB vl := by
  intro d
  induction d with
  | zero =>
    intro i fuel vl hi hf hs
    obtain ⟨f, rfl, -⟩ := so_succ hf
    rw [wY_run__top_ta_tb_13]
    refine br_t (nI_le (by omega) (by omega)) ⟨len + 1, ?_⟩
    exact so_y51_t hn hn3 hl ok hp len 0 (len + 1) vl (by omega) (by omega) (fun j hj => hs j (by omega))
  | succ d ih =>
    intro i fuel vl hi hf hs
    obtain ⟨f, rfl, hf⟩ := so_succ hf
    have ci : (nI i).toNatClampNeg = i := nI_clamp (by omega)
    rw [wY_run__top_ta_tb_13]
    refine br_f (nI_ge (by omega) (by omega)) ?_
    rw [ci]
    refine ⟨vp_in_nI (by omega) (by omega), nm_e (nm_r (nI_1 i) ?_)⟩
    refine ih (i + 1) f _ (by omega) (by omega) ?_
    intro j hj
    by_cases e : j = i
    · subst e; rw [so_us]; rfl
    · rw [so_un e]; exact hs j (by omega)
theorem so_yrun_t {post : Int32 → SY → Prop} {vl : Nat → Int32} (hn : 1 ≤ ni) (hn3 : ni ≤ 3) (hl : len ≤ 4) (ok : so_ok ni len yA yB) (hp : ∀ s, post (so_run ni w p yO yA yB len) ((nI ml), (nI w), (nI ni), st, (nI ts), (nI cl), ex, yO, yA, yB, cO, cA, cB, s)) :
    wpY_run__top_ta_tb post ((nI ml), (nI w), (nI ni), st, (nI ts), (nI cl), ex, yO, yA, yB, cO, cA, cB, vl) (nI len) p :=
  nm_r (e' := so_mk w) rfl ⟨ni + 1, so_y13_t hn hn3 hl ok hp ni 0 (ni + 1) vl (by omega) (by omega) (fun j hj => absurd hj (by omega))⟩
theorem so_y51_c {post : Int32 → SY → Prop} (hn : 1 ≤ ni) (hn3 : ni ≤ 3) (hl : len ≤ 4) (ok : so_ok ni len cA cB) (hp : ∀ s, post (so_run ni w p cO cA cB len) ((nI ml), (nI w), (nI ni), st, (nI ts), (nI cl), ex, yO, yA, yB, cO, cA, cB, s)) :
    ∀ (d i fuel : Nat) (vl : Nat → Int32), i + d = len → d < fuel → (∀ j, j < ni + i → vl j = so_sl ni w p cO cA cB i j) → wY_run__cop_ca_cb_51 post (nI len) (so_mk w) (nI ml) (nI w) (nI ni) st (nI ts) (nI cl) ex fuel (nI i) yO yA yB cO cA cB vl := by
  intro d
  induction d with
  | zero =>
    intro i fuel vl hi hf hs
    obtain ⟨f, rfl, -⟩ := so_succ hf
    obtain ⟨q, hq⟩ : ∃ q, ni + len = q + 1 := ⟨ni + len - 1, by omega⟩
    have e1 : nI ni + nI len - 1 = nI q := by rw [nI_add, hq, nI_pred]
    have e0 : i = len := by omega
    subst e0
    have e2 : vl (nI q).toNatClampNeg = so_run ni w p cO cA cB i := by
      rw [nI_clamp (by omega), hs q (by omega)]
      unfold so_run
      rw [hq]
      rfl
    have hq2 := hp vl
    rw [← e2] at hq2
    rw [wY_run__cop_ca_cb_51]
    refine br_t (nI_le (by omega) (by omega)) ?_
    rw [e1]
    exact And.intro (vp_in_nI (by omega) (by omega)) hq2
  | succ d ih =>
    intro i fuel vl hi hf hs
    obtain ⟨f, rfl, hf⟩ := so_succ hf
    obtain ⟨a, b, ha, hb, ea, eb⟩ := ok i (by omega)
    have ci : (nI i).toNatClampNeg = i := nI_clamp (by omega)
    have vi : vp_in (nI i) 5 := vp_in_nI (by omega) (by omega)
    have vA : vp_in (cA i) 8 := by rw [ea]; exact vp_in_nI (by omega) (by omega)
    have vB : vp_in (cB i) 8 := by rw [eb]; exact vp_in_nI (by omega) (by omega)
    have hA : (cA i).toNatClampNeg < ni + i := by rw [ea, nI_clamp (by omega)]; exact ha
    have hB : (cB i).toNatClampNeg < ni + i := by rw [eb, nI_clamp (by omega)]; exact hb
    rw [wY_run__cop_ca_cb_51]
    refine br_f (nI_ge (by omega) (by omega)) ?_
    rw [ci]
    refine ⟨vi, vA, nm_r (hs _ hA) ⟨vi, vB, nm_r (hs _ hB) ⟨vi, nm_e ?_⟩⟩⟩
    refine so_opY (K := fun z => wY_run__cop_ca_cb_201 post (wY_run__cop_ca_cb_51 post (nI len) (so_mk w) (nI ml) (nI w) (nI ni) st (nI ts) (nI cl) ex f) (nI len) (so_mk w) (nI i) z (nI ml) (nI w) (nI ni) st (nI ts) (nI cl) ex yO yA yB cO cA cB vl) ?_
    unfold wY_run__cop_ca_cb_201
    rw [nI_add]
    refine ⟨vp_in_nI (by omega) (by omega), nm_e (nm_r (nI_1 i) ?_)⟩
    rw [nI_clamp (by omega)]
    refine ih (i + 1) f _ (by omega) (by omega) ?_
    intro j hj
    show upd vl (ni + i) _ j = upd _ (ni + i) _ j
    by_cases e : j = ni + i
    · subst e; rw [so_us, so_us]
    · rw [so_un e, so_un e]; exact hs j (by omega)
theorem so_y13_c {post : Int32 → SY → Prop} (hn : 1 ≤ ni) (hn3 : ni ≤ 3) (hl : len ≤ 4) (ok : so_ok ni len cA cB) (hp : ∀ s, post (so_run ni w p cO cA cB len) ((nI ml), (nI w), (nI ni), st, (nI ts), (nI cl), ex, yO, yA, yB, cO, cA, cB, s)) :
    ∀ (d i fuel : Nat) (vl : Nat → Int32), i + d = ni → d < fuel → (∀ j, j < i → vl j = so_in w p j) → wY_run__cop_ca_cb_13 post (nI len) p (so_mk w) (nI ml) (nI w) (nI ni) st (nI ts) (nI cl) ex fuel (nI i) yO yA yB cO cA cB vl := by
  intro d
  induction d with
  | zero =>
    intro i fuel vl hi hf hs
    obtain ⟨f, rfl, -⟩ := so_succ hf
    rw [wY_run__cop_ca_cb_13]
    refine br_t (nI_le (by omega) (by omega)) ⟨len + 1, ?_⟩
    exact so_y51_c hn hn3 hl ok hp len 0 (len + 1) vl (by omega) (by omega) (fun j hj => hs j (by omega))
  | succ d ih =>
    intro i fuel vl hi hf hs
    obtain ⟨f, rfl, hf⟩ := so_succ hf
    have ci : (nI i).toNatClampNeg = i := nI_clamp (by omega)
    rw [wY_run__cop_ca_cb_13]
    refine br_f (nI_ge (by omega) (by omega)) ?_
    rw [ci]
    refine ⟨vp_in_nI (by omega) (by omega), nm_e (nm_r (nI_1 i) ?_)⟩
    refine ih (i + 1) f _ (by omega) (by omega) ?_
    intro j hj
    by_cases e : j = i
    · subst e; rw [so_us]; rfl
    · rw [so_un e]; exact hs j (by omega)
theorem so_yrun_c {post : Int32 → SY → Prop} {vl : Nat → Int32} (hn : 1 ≤ ni) (hn3 : ni ≤ 3) (hl : len ≤ 4) (ok : so_ok ni len cA cB) (hp : ∀ s, post (so_run ni w p cO cA cB len) ((nI ml), (nI w), (nI ni), st, (nI ts), (nI cl), ex, yO, yA, yB, cO, cA, cB, s)) :
    wpY_run__cop_ca_cb post ((nI ml), (nI w), (nI ni), st, (nI ts), (nI cl), ex, yO, yA, yB, cO, cA, cB, vl) (nI len) p :=
  nm_r (e' := so_mk w) rfl ⟨ni + 1, so_y13_c hn hn3 hl ok hp ni 0 (ni + 1) vl (by omega) (by omega) (fun j hj => absurd hj (by omega))⟩
end
end
section
/-! the clearing loops: begin's second loop, reset, clearCand -/
section
variable {ml w ni ts cl : Nat} {st ex : Int32} {tO tA tB cO cA cB sl tb yO yA yB vl : Nat → Int32}
/-- rows cleared so far, or never written -/
def so_cz (i : Nat) (a : Nat → Int32) : Prop := ∀ j, j < i ∨ 4 ≤ j → a j = 0
theorem so_cz0 {a : Nat → Int32} (h : so_z a) : so_cz 0 a := fun j hj => h j (by omega)
theorem so_czU {a : Nat → Int32} {i : Nat} (h : so_cz i a) : so_cz (i + 1) (upd a i 0) := by
  intro j hj
  by_cases e : j = i
  · subst e; exact so_us
  · exact (so_un e).trans (h j (by omega))
theorem so_czE {a : Nat → Int32} {i : Nat} (h : so_cz i a) (hi : 4 ≤ i) : a = fun _ => 0 := funext fun j => h j (by omega)
theorem so_x72 {post : Int32 → SX → Prop} (hp : post 1 ((nI ml), (nI w), (nI ni), (so_mk w), 1, (nI ts), 0, 0, tO, tA, tB, (fun _ => 0), (fun _ => 0), (fun _ => 0), sl, tb)) :
    ∀ (d i fuel : Nat) (cO cA cB : Nat → Int32), i + d = 4 → d < fuel → so_cz i cO → so_cz i cA → so_cz i cB → wX_begin_72 post (nI ml) (nI w) (nI ni) (so_mk w) st (nI ts) ex (nI cl) fuel (nI i) tO tA tB cO cA cB sl tb := by
  intro d
  induction d with
  | zero =>
    intro i fuel cO cA cB hi hf h1 h2 h3
    obtain ⟨f, rfl, -⟩ := so_succ hf
    obtain rfl := so_czE h1 (by omega)
    obtain rfl := so_czE h2 (by omega)
    obtain rfl := so_czE h3 (by omega)
    exact br_t (nI_le (a := 4) (by omega) (by omega)) hp
  | succ d ih =>
    intro i fuel cO cA cB hi hf h1 h2 h3
    obtain ⟨f, rfl, hf⟩ := so_succ hf
    have ci : (nI i).toNatClampNeg = i := nI_clamp (by omega)
    have vi : vp_in (nI i) 4 := vp_in_nI (by omega) (by omega)
    rw [wX_begin_72]
    refine br_f (nI_ge (b := 4) (by omega) (by omega)) ?_
    rw [ci]
    exact ⟨vi, nm_e ⟨vi, nm_e ⟨vi, nm_e (nm_r (nI_1 i) (ih (i + 1) f _ _ _ (by omega) (by omega) (so_czU h1) (so_czU h2) (so_czU h3)))⟩⟩⟩
theorem so_x22 {post : SX → Prop} (hp : ∀ tO tA tB, post ((nI ml), (nI w), (nI ni), (so_mk w), st, (nI ts), ex, (nI cl), tO, tA, tB, (fun _ => 0), (fun _ => 0), (fun _ => 0), sl, tb)) :
    ∀ (d i fuel : Nat) (tO tA tB cO cA cB : Nat → Int32), i + d = 4 → d < fuel → so_cz i cO → so_cz i cA → so_cz i cB → wX_reset_22 post (nI ml) (nI w) (nI ni) (so_mk w) st (nI ts) ex (nI cl) fuel (nI i) tO tA tB cO cA cB sl tb := by
  intro d
  induction d with
  | zero =>
    intro i fuel tO tA tB cO cA cB hi hf h1 h2 h3
    obtain ⟨f, rfl, -⟩ := so_succ hf
    obtain rfl := so_czE h1 (by omega)
    obtain rfl := so_czE h2 (by omega)
    obtain rfl := so_czE h3 (by omega)
    exact br_t (nI_le (a := 4) (by omega) (by omega)) (hp tO tA tB)
  | succ d ih =>
    intro i fuel tO tA tB cO cA cB hi hf h1 h2 h3
    obtain ⟨f, rfl, hf⟩ := so_succ hf
    have ci : (nI i).toNatClampNeg = i := nI_clamp (by omega)
    have vi : vp_in (nI i) 4 := vp_in_nI (by omega) (by omega)
    rw [wX_reset_22]
    refine br_f (nI_ge (b := 4) (by omega) (by omega)) ?_
    rw [ci]
    exact ⟨vi, nm_e ⟨vi, nm_e ⟨vi, nm_e ⟨vi, nm_e ⟨vi, nm_e ⟨vi, nm_e (nm_r (nI_1 i) (ih (i + 1) f _ _ _ _ _ _ (by omega) (by omega) (so_czU h1) (so_czU h2) (so_czU h3)))⟩⟩⟩⟩⟩⟩
theorem so_y7 {post : SY → Prop} (hp : post ((nI ml), (nI w), (nI ni), st, (nI ts), (nI cl), ex, yO, yA, yB, (fun _ => 0), (fun _ => 0), (fun _ => 0), vl)) :
    ∀ (d i fuel : Nat) (cO cA cB : Nat → Int32), i + d = 5 → d < fuel → so_cz i cO → so_cz i cA → so_cz i cB → wY_clearCand_7 post (nI ml) (nI w) (nI ni) st (nI ts) (nI cl) ex fuel (nI i) yO yA yB cO cA cB vl := by
  intro d
  induction d with
  | zero =>
    intro i fuel cO cA cB hi hf h1 h2 h3
    obtain ⟨f, rfl, -⟩ := so_succ hf
    obtain rfl := so_czE h1 (by omega)
    obtain rfl := so_czE h2 (by omega)
    obtain rfl := so_czE h3 (by omega)
    exact br_t (nI_lt (a := 4) (by omega) (by omega)) hp
  | succ d ih =>
    intro i fuel cO cA cB hi hf h1 h2 h3
    obtain ⟨f, rfl, hf⟩ := so_succ hf
    have ci : (nI i).toNatClampNeg = i := nI_clamp (by omega)
    have vi : vp_in (nI i) 5 := vp_in_nI (by omega) (by omega)
    rw [wY_clearCand_7]
    refine br_f (nI_nlt (a := 4) (by omega) (by omega)) ?_
    rw [ci]
    exact ⟨vi, nm_e ⟨vi, nm_e ⟨vi, nm_e (nm_r (nI_1 i) (ih (i + 1) f _ _ _ (by omega) (by omega) (so_czU h1) (so_czU h2) (so_czU h3)))⟩⟩⟩
theorem so_yclr {post : SY → Prop} (z1 : so_z cO) (z2 : so_z cA) (z3 : so_z cB) (hp : post ((nI ml), (nI w), (nI ni), st, (nI ts), 0, ex, yO, yA, yB, (fun _ => 0), (fun _ => 0), (fun _ => 0), vl)) : wpY_clearCand post ((nI ml), (nI w), (nI ni), st, (nI ts), (nI cl), ex, yO, yA, yB, cO, cA, cB, vl) :=
  ⟨6, so_y7 (cl := 0) hp 5 0 6 _ _ _ (by omega) (by omega) (so_cz0 z1) (so_cz0 z2) (so_cz0 z3)⟩
theorem so_xrst {post : SX → Prop} (z1 : so_z cO) (z2 : so_z cA) (z3 : so_z cB) (hp : ∀ tO tA tB, post ((nI ml), (nI w), (nI ni), (so_mk w), 0, 0, 0, 0, tO, tA, tB, (fun _ => 0), (fun _ => 0), (fun _ => 0), sl, tb)) : wpX_reset post ((nI ml), (nI w), (nI ni), (so_mk w), st, (nI ts), ex, (nI cl), tO, tA, tB, cO, cA, cB, sl, tb) :=
  ⟨5, so_x22 (ts := 0) (cl := 0) hp 4 0 5 _ _ _ _ _ _ (by omega) (by omega) (so_cz0 z1) (so_cz0 z2) (so_cz0 z3)⟩
theorem so_yrst {post : SY → Prop} (z1 : so_z cO) (z2 : so_z cA) (z3 : so_z cB) (hp : post ((nI ml), (nI w), (nI ni), 0, 0, 0, 0, yO, yA, yB, (fun _ => 0), (fun _ => 0), (fun _ => 0), vl)) : wpY_reset post ((nI ml), (nI w), (nI ni), st, (nI ts), (nI cl), ex, yO, yA, yB, cO, cA, cB, vl) :=
  so_yclr (ts := 0) (cl := cl) z1 z2 z3 hp
end
end
section
/-! advance: one outcome for both sides -/
section
variable {ml w ni cl : Nat}
/-- X's walk of advance from row j ends at the outcome -/
def so_AX (ml w ni cl j : Nat) (cO cA cB : Nat → Int32) (cl' : Nat) (cO' cA' cB' : Nat → Int32) : Prop :=
  ∀ (post : SX → Prop) (fuel ts : Nat) (st ex : Int32) (tO tA tB sl tb : Nat → Int32), j < fuel → post ((nI ml), (nI w), (nI ni), (so_mk w), st, (nI ts), ex, (nI cl'), tO, tA, tB, cO', cA', cB', sl, tb) → wX_advance_7 post (nI ml) (nI w) (nI ni) (so_mk w) st (nI ts) ex (nI cl) fuel (nI j - 1) tO tA tB cO cA cB sl tb
/-- and Y's -/
def so_AY (ml w ni cl j : Nat) (cO cA cB : Nat → Int32) (cl' : Nat) (cO' cA' cB' : Nat → Int32) : Prop :=
  ∀ (post : SY → Prop) (fuel ts : Nat) (st ex : Int32) (yO yA yB vl : Nat → Int32), j < fuel → post ((nI ml), (nI w), (nI ni), st, (nI ts), (nI cl'), ex, yO, yA, yB, cO', cA', cB', vl) → wY_advance_7 post (nI ml) (nI w) (nI ni) st (nI ts) (nI cl) ex fuel (nI j - 1) yO yA yB cO cA cB vl
theorem so_neg : nI 0 - 1 < 0 := by decide
theorem so_ax0a {cO cA cB : Nat → Int32} (h : 4 ≤ cl) (h2 : cl ≤ 4) : so_AX ml w ni cl 0 cO cA cB cl cO cA cB := by
  intro post fuel ts st ex tO tA tB sl tb hf hp
  obtain ⟨f, rfl, -⟩ := so_succ hf
  exact br_t so_neg (br_t (nI_le (a := 4) h (by omega)) hp)
theorem so_ax0b {cO cA cB : Nat → Int32} (h : cl < 4) : so_AX ml w ni cl 0 cO cA cB (cl + 1) cO cA cB := by
  intro post fuel ts st ex tO tA tB sl tb hf hp
  obtain ⟨f, rfl, -⟩ := so_succ hf
  exact br_t so_neg (br_f (nI_ge (b := 4) h (by omega)) (nm_r (nI_1 cl) hp))
theorem so_ay0a {cO cA cB : Nat → Int32} (h : 4 ≤ cl) (h2 : cl ≤ 4) : so_AY ml w ni cl 0 cO cA cB cl cO cA cB := by
  intro post fuel ts st ex yO yA yB vl hf hp
  obtain ⟨f, rfl, -⟩ := so_succ hf
  exact br_t so_neg (br_t (nI_le (a := 4) h (by omega)) hp)
theorem so_ay0b {cO cA cB : Nat → Int32} (h : cl < 4) : so_AY ml w ni cl 0 cO cA cB (cl + 1) cO cA cB := by
  intro post fuel ts st ex yO yA yB vl hf hp
  obtain ⟨f, rfl, -⟩ := so_succ hf
  exact br_t so_neg (br_f (nI_ge (b := 4) h (by omega)) (nm_r (nI_1 cl) hp))
/-- X's turn at row j, by what the row holds -/
theorem so_axs {j a b : Nat} {cO cA cB : Nat → Int32} (hn3 : ni ≤ 3) (hj : j < 4) (ha : a < ni + j) (hb : b < ni + j) (ea : cA j = nI a) (eb : cB j = nI b) {cl' : Nat} {cO' cA' cB' : Nat → Int32}
    (k1 : b + 1 < ni + j → cl' = cl ∧ cO' = cO ∧ cA' = cA ∧ cB' = upd cB j (nI (b + 1)))
    (k2 : ni + j ≤ b + 1 → a + 1 < ni + j → cl' = cl ∧ cO' = cO ∧ cA' = upd cA j (nI (a + 1)) ∧ cB' = upd cB j 0)
    (k3 : ni + j ≤ b + 1 → ni + j ≤ a + 1 → ¬ 8 ≤ cO j + 1 → cl' = cl ∧ cO' = upd cO j (cO j + 1) ∧ cA' = upd cA j 0 ∧ cB' = upd cB j 0)
    (k4 : ni + j ≤ b + 1 → ni + j ≤ a + 1 → 8 ≤ cO j + 1 → so_AX ml w ni cl j (upd cO j 0) (upd cA j 0) (upd cB j 0) cl' cO' cA' cB') :
    so_AX ml w ni cl (j + 1) cO cA cB cl' cO' cA' cB' := by
  intro post fuel ts st ex tO tA tB sl tb hf hp
  obtain ⟨f, rfl, hf⟩ := so_succ hf
  have ci : (nI j).toNatClampNeg = j := nI_clamp (by omega)
  have vi : vp_in (nI j) 4 := vp_in_nI (by omega) (by omega)
  rw [nI_pred, wX_advance_7]
  refine br_f (nI_pos (by omega)) (nm_r (nI_add ni j) ?_)
  rw [ci]
  refine ⟨vi, vi, nm_r (e' := upd cB j (nI (b + 1))) (by rw [eb, nI_1]) ⟨vi, ?_⟩⟩
  rw [so_us]
  by_cases c1 : b + 1 < ni + j
  · obtain ⟨rfl, rfl, rfl, rfl⟩ := k1 c1
    exact br_f (nI_ge c1 (by omega)) hp
  refine br_t (nI_le (by omega) (by omega)) ⟨vi, nm_r so_uu ⟨vi, vi, nm_r (e' := upd cA j (nI (a + 1))) (by rw [ea, nI_1]) ⟨vi, ?_⟩⟩⟩
  rw [so_us]
  by_cases c2 : a + 1 < ni + j
  · obtain ⟨rfl, rfl, rfl, rfl⟩ := k2 (by omega) c2
    exact br_f (nI_ge c2 (by omega)) hp
  refine br_t (nI_le (by omega) (by omega)) ⟨vi, nm_r so_uu ⟨vi, vi, nm_e ⟨vi, ?_⟩⟩⟩
  rw [so_us]
  by_cases c3 : 8 ≤ cO j + 1
  · refine br_t c3 ⟨vi, nm_r so_uu (nm_e ?_)⟩
    exact k4 (by omega) (by omega) c3 post f ts st ex tO tA tB sl tb (by omega) hp
  · obtain ⟨rfl, rfl, rfl, rfl⟩ := k3 (by omega) (by omega) c3
    exact br_f c3 hp
/-- and Y's -/
theorem so_ays {j a b : Nat} {cO cA cB : Nat → Int32} (hn3 : ni ≤ 3) (hj : j < 4) (ha : a < ni + j) (hb : b < ni + j) (ea : cA j = nI a) (eb : cB j = nI b) {cl' : Nat} {cO' cA' cB' : Nat → Int32}
    (k1 : b + 1 < ni + j → cl' = cl ∧ cO' = cO ∧ cA' = cA ∧ cB' = upd cB j (nI (b + 1)))
    (k2 : ni + j ≤ b + 1 → a + 1 < ni + j → cl' = cl ∧ cO' = cO ∧ cA' = upd cA j (nI (a + 1)) ∧ cB' = upd cB j 0)
    (k3 : ni + j ≤ b + 1 → ni + j ≤ a + 1 → ¬ 8 ≤ cO j + 1 → cl' = cl ∧ cO' = upd cO j (cO j + 1) ∧ cA' = upd cA j 0 ∧ cB' = upd cB j 0)
    (k4 : ni + j ≤ b + 1 → ni + j ≤ a + 1 → 8 ≤ cO j + 1 → so_AY ml w ni cl j (upd cO j 0) (upd cA j 0) (upd cB j 0) cl' cO' cA' cB') :
    so_AY ml w ni cl (j + 1) cO cA cB cl' cO' cA' cB' := by
  intro post fuel ts st ex yO yA yB vl hf hp
  obtain ⟨f, rfl, hf⟩ := so_succ hf
  have ci : (nI j).toNatClampNeg = j := nI_clamp (by omega)
  have vi : vp_in (nI j) 5 := vp_in_nI (by omega) (by omega)
  rw [nI_pred, wY_advance_7]
  refine br_f (nI_pos (by omega)) (nm_r (nI_add ni j) ?_)
  rw [ci, ea, eb, nI_1 b, nI_1 a]
  refine ⟨vi, ?_⟩
  by_cases c1 : b + 1 < ni + j
  · obtain ⟨rfl, rfl, rfl, rfl⟩ := k1 c1
    exact br_f (nI_ge c1 (by omega)) ⟨vi, vi, nm_e hp⟩
  refine br_t (nI_le (by omega) (by omega)) ⟨vi, nm_e ⟨vi, ?_⟩⟩
  by_cases c2 : a + 1 < ni + j
  · obtain ⟨rfl, rfl, rfl, rfl⟩ := k2 (by omega) c2
    exact br_f (nI_ge c2 (by omega)) ⟨vi, vi, nm_e hp⟩
  refine br_t (nI_le (by omega) (by omega)) ⟨vi, nm_e ⟨vi, ?_⟩⟩
  by_cases c3 : 8 ≤ cO j + 1
  · refine br_t c3 ⟨vi, nm_e (nm_e ?_)⟩
    exact k4 (by omega) (by omega) c3 post f ts st ex yO yA yB vl (by omega) hp
  · obtain ⟨rfl, rfl, rfl, rfl⟩ := k3 (by omega) (by omega) c3
    exact br_f c3 ⟨vi, vi, nm_e hp⟩
/-- the candidate's facts -/
def so_C (ni cl : Nat) (cO cA cB : Nat → Int32) : Prop := cl ≤ 4 ∧ so_ok ni 4 cA cB ∧ so_z cO ∧ so_z cA ∧ so_z cB
/-- one outcome of advance for both sides -/
def so_AO (ml w ni cl j : Nat) (cO cA cB : Nat → Int32) : Prop :=
  ∃ (cl' : Nat) (cO' cA' cB' : Nat → Int32), so_C ni cl' cO' cA' cB' ∧ so_AX ml w ni cl j cO cA cB cl' cO' cA' cB' ∧ so_AY ml w ni cl j cO cA cB cl' cO' cA' cB'
theorem so_adv (hn : 1 ≤ ni) (hn3 : ni ≤ 3) : ∀ (j : Nat) (cO cA cB : Nat → Int32), j ≤ 4 → so_C ni cl cO cA cB → so_AO ml w ni cl j cO cA cB := by
  intro j
  induction j with
  | zero =>
    intro cO cA cB _ hC
    obtain ⟨h4, ok, z1, z2, z3⟩ := hC
    by_cases h : cl < 4
    · exact ⟨cl + 1, cO, cA, cB, ⟨h, ok, z1, z2, z3⟩, so_ax0b h, so_ay0b h⟩
    · exact ⟨cl, cO, cA, cB, ⟨h4, ok, z1, z2, z3⟩, so_ax0a (by omega) h4, so_ay0a (by omega) h4⟩
  | succ j ih =>
    intro cO cA cB hj hC
    have hC' := hC
    obtain ⟨h4, ok, z1, z2, z3⟩ := hC
    obtain ⟨a, b, ha, hb, ea, eb⟩ := ok j (by omega)
    have hj4 : j < 4 := by omega
    have oB0 : so_ok ni 4 cA (upd cB j 0) := so_okB (b := 0) ok (by omega)
    have oAB : so_ok ni 4 (upd cA j 0) (upd cB j 0) := so_okA (a := 0) oB0 (by omega)
    by_cases c1 : b + 1 < ni + j
    · refine ⟨cl, cO, cA, upd cB j (nI (b + 1)), ⟨h4, so_okB ok c1, z1, z2, so_zU z3 hj4⟩, so_axs hn3 hj4 ha hb ea eb ?_ ?_ ?_ ?_, so_ays hn3 hj4 ha hb ea eb ?_ ?_ ?_ ?_⟩
      · exact fun _ => ⟨rfl, rfl, rfl, rfl⟩
      · exact fun h => absurd h (by omega)
      · exact fun h => absurd h (by omega)
      · exact fun h => absurd h (by omega)
      · exact fun _ => ⟨rfl, rfl, rfl, rfl⟩
      · exact fun h => absurd h (by omega)
      · exact fun h => absurd h (by omega)
      · exact fun h => absurd h (by omega)
    by_cases c2 : a + 1 < ni + j
    · refine ⟨cl, cO, upd cA j (nI (a + 1)), upd cB j 0, ⟨h4, so_okA oB0 c2, z1, so_zU z2 hj4, so_zU z3 hj4⟩, so_axs hn3 hj4 ha hb ea eb ?_ ?_ ?_ ?_, so_ays hn3 hj4 ha hb ea eb ?_ ?_ ?_ ?_⟩
      · exact fun h => absurd h c1
      · exact fun _ _ => ⟨rfl, rfl, rfl, rfl⟩
      · exact fun _ h => absurd h (by omega)
      · exact fun _ h => absurd h (by omega)
      · exact fun h => absurd h c1
      · exact fun _ _ => ⟨rfl, rfl, rfl, rfl⟩
      · exact fun _ h => absurd h (by omega)
      · exact fun _ h => absurd h (by omega)
    by_cases c3 : 8 ≤ cO j + 1
    · obtain ⟨cl', cO', cA', cB', hC2, hX, hY⟩ := ih (upd cO j 0) (upd cA j 0) (upd cB j 0) (by omega) ⟨h4, oAB, so_zU z1 hj4, so_zU z2 hj4, so_zU z3 hj4⟩
      refine ⟨cl', cO', cA', cB', hC2, so_axs hn3 hj4 ha hb ea eb ?_ ?_ ?_ ?_, so_ays hn3 hj4 ha hb ea eb ?_ ?_ ?_ ?_⟩
      · exact fun h => absurd h c1
      · exact fun _ h => absurd h c2
      · exact fun _ _ h => absurd c3 h
      · exact fun _ _ _ => hX
      · exact fun h => absurd h c1
      · exact fun _ h => absurd h c2
      · exact fun _ _ h => absurd c3 h
      · exact fun _ _ _ => hY
    · refine ⟨cl, upd cO j (cO j + 1), upd cA j 0, upd cB j 0, ⟨h4, oAB, so_zU z1 hj4, so_zU z2 hj4, so_zU z3 hj4⟩, so_axs hn3 hj4 ha hb ea eb ?_ ?_ ?_ ?_, so_ays hn3 hj4 ha hb ea eb ?_ ?_ ?_ ?_⟩
      · exact fun h => absurd h c1
      · exact fun _ h => absurd h c2
      · exact fun _ _ _ => ⟨rfl, rfl, rfl, rfl⟩
      · exact fun _ _ h => absurd h c3
      · exact fun h => absurd h c1
      · exact fun _ h => absurd h c2
      · exact fun _ _ _ => ⟨rfl, rfl, rfl, rfl⟩
      · exact fun _ _ h => absurd h c3
end
end
section
/-! begin's table; the comparison over all inputs; the search in lockstep -/
section
variable {ml w ni ts tot : Nat} {tO tA tB yO yA yB : Nat → Int32}
theorem so_x32 {post : Int32 → SX → Prop} {cl : Nat} {st ex : Int32} {cO cA cB : Nat → Int32} (hn : 1 ≤ ni) (hn3 : ni ≤ 3) (hl : ts ≤ 4) (ok : so_ok ni ts tA tB) (ht : tot ≤ 256) (z1 : so_z cO) (z2 : so_z cA) (z3 : so_z cB)
    (hp : ∀ sl tb, (∀ q, q < tot → tb q = so_run ni w (nI q) tO tA tB ts) → post 1 ((nI ml), (nI w), (nI ni), (so_mk w), 1, (nI ts), 0, 0, tO, tA, tB, (fun _ => 0), (fun _ => 0), (fun _ => 0), sl, tb)) :
    ∀ (d p fuel : Nat) (sl tb : Nat → Int32), p + d = tot → d < fuel → (∀ q, q < p → tb q = so_run ni w (nI q) tO tA tB ts) → wX_begin_32 post (nI tot) fuel (nI p) (nI ml) (nI w) (nI ni) (so_mk w) st (nI ts) ex (nI cl) tO tA tB cO cA cB sl tb := by
  intro d
  induction d with
  | zero =>
    intro p fuel sl tb hi hf hs
    obtain ⟨f, rfl, -⟩ := so_succ hf
    have e : p = tot := by omega
    subst e
    exact br_t (nI_le (by omega) (by omega)) ⟨5, so_x72 (hp sl tb hs) 4 0 5 _ _ _ (by omega) (by omega) (so_cz0 z1) (so_cz0 z2) (so_cz0 z3)⟩
  | succ d ih =>
    intro p fuel sl tb hi hf hs
    obtain ⟨f, rfl, hf⟩ := so_succ hf
    have ci : (nI p).toNatClampNeg = p := nI_clamp (by omega)
    rw [wX_begin_32]
    refine br_f (nI_ge (by omega) (by omega)) ?_
    refine so_xrun_t hn hn3 hl ok fun s => ?_
    dsimp only
    rw [ci]
    refine ⟨vp_in_nI (by omega) (by omega), nm_e (nm_r (nI_1 p) ?_)⟩
    refine ih (p + 1) f s _ (by omega) (by omega) ?_
    intro q hq
    by_cases e : q = p
    · subst e; exact so_us
    · rw [so_un e]; exact hs q (by omega)
/-- the candidate agrees with a table of answers -/
def so_ag (ni w tot cl : Nat) (cO cA cB tb : Nat → Int32) : Prop := ∀ q, q < tot → so_run ni w (nI q) cO cA cB cl = tb q
theorem so_x57 {post : Int32 → SX → Prop} {J : Int32 → Int32 → Int32 → Int32 → Int32 → Int32 → Int32 → Int32 → Int32 → (Nat → Int32) → (Nat → Int32) → (Nat → Int32) → (Nat → Int32) → (Nat → Int32) → (Nat → Int32) → (Nat → Int32) → (Nat → Int32) → Prop}
    {cl : Nat} {st ex x3 : Int32} {cO cA cB tb : Nat → Int32} (hn : 1 ≤ ni) (hn3 : ni ≤ 3) (hC : so_C ni cl cO cA cB) (ht : tot ≤ 256)
    (k1 : so_ag ni w tot cl cO cA cB tb → ∀ sl, wX_search_109 post J (nI tot) x3 1 (nI ml) (nI w) (nI ni) (so_mk w) st (nI ts) ex (nI cl) tO tA tB cO cA cB sl tb)
    (k0 : ¬ so_ag ni w tot cl cO cA cB tb → ∀ sl, wX_search_109 post J (nI tot) x3 0 (nI ml) (nI w) (nI ni) (so_mk w) st (nI ts) ex (nI cl) tO tA tB cO cA cB sl tb) :
    ∀ (d p fuel : Nat) (sl : Nat → Int32), p + d = tot → d + 1 < fuel → (∀ q, q < p → so_run ni w (nI q) cO cA cB cl = tb q) → wX_search_57 post J (nI tot) x3 fuel 1 (nI p) (nI ml) (nI w) (nI ni) (so_mk w) st (nI ts) ex (nI cl) tO tA tB cO cA cB sl tb := by
  intro d
  induction d with
  | zero =>
    intro p fuel sl hi hf hs
    obtain ⟨f, rfl, -⟩ := so_succ hf
    have e : p = tot := by omega
    subst e
    exact br_t (nI_le (by omega) (by omega)) (k1 hs sl)
  | succ d ih =>
    intro p fuel sl hi hf hs
    obtain ⟨f, rfl, hf⟩ := so_succ hf
    have ci : (nI p).toNatClampNeg = p := nI_clamp (by omega)
    rw [wX_search_57]
    refine br_f (nI_ge (by omega) (by omega)) (br_f (by decide) ?_)
    refine so_xrun_c hn hn3 hC.1 (so_ok_le hC.2.1 hC.1) fun s => ?_
    dsimp only
    rw [ci]
    refine ⟨vp_in_nI (by omega) (by omega), ?_⟩
    by_cases e : so_run ni w (nI p) cO cA cB cl = tb p
    · refine br_t e (nm_r (nI_1 p) ?_)
      refine ih (p + 1) f s (by omega) (by omega) ?_
      intro q hq
      by_cases e2 : q = p
      · subst e2; exact e
      · exact hs q (by omega)
    · refine br_f e (nm_r (nI_1 p) ?_)
      have hK := k0 (fun h => e (h p (by omega))) s
      obtain ⟨g, rfl⟩ : ∃ g, f = g + 1 := ⟨f - 1, by omega⟩
      rw [wX_search_57]
      by_cases e3 : tot ≤ p + 1
      · exact br_t (nI_le e3 (by omega)) hK
      · exact br_f (nI_ge (by omega) (by omega)) (br_t rfl hK)
theorem so_y14 {post : Int32 → SY → Prop} {cl : Nat} {st ex : Int32} {cO cA cB tb : Nat → Int32} (hn : 1 ≤ ni) (hn3 : ni ≤ 3) (hC : so_C ni cl cO cA cB) (ht : tot ≤ 256) (hl : ts ≤ 4) (ok : so_ok ni ts yA yB)
    (hT : ∀ q, q < tot → tb q = so_run ni w (nI q) yO yA yB ts)
    (k1 : so_ag ni w tot cl cO cA cB tb → ∀ vl, post 1 ((nI ml), (nI w), (nI ni), st, (nI ts), (nI cl), ex, yO, yA, yB, cO, cA, cB, vl))
    (k0 : ¬ so_ag ni w tot cl cO cA cB tb → ∀ vl, post 0 ((nI ml), (nI w), (nI ni), st, (nI ts), (nI cl), ex, yO, yA, yB, cO, cA, cB, vl)) :
    ∀ (d p fuel : Nat) (vl : Nat → Int32), p + d = tot → d < fuel → (∀ q, q < p → so_run ni w (nI q) cO cA cB cl = tb q) → wY_agrees_14 post (nI tot) fuel (nI p) (nI ml) (nI w) (nI ni) st (nI ts) (nI cl) ex yO yA yB cO cA cB vl := by
  intro d
  induction d with
  | zero =>
    intro p fuel vl hi hf hs
    obtain ⟨f, rfl, -⟩ := so_succ hf
    have e : p = tot := by omega
    subst e
    exact br_t (nI_le (by omega) (by omega)) (k1 hs vl)
  | succ d ih =>
    intro p fuel vl hi hf hs
    obtain ⟨f, rfl, hf⟩ := so_succ hf
    rw [wY_agrees_14]
    refine br_f (nI_ge (by omega) (by omega)) ?_
    refine so_yrun_c hn hn3 hC.1 (so_ok_le hC.2.1 hC.1) fun s => ?_
    dsimp only
    refine so_yrun_t hn hn3 hl ok fun s2 => ?_
    dsimp only
    rw [← hT p (by omega)]
    by_cases e : so_run ni w (nI p) cO cA cB cl = tb p
    · refine br_t e (nm_r (nI_1 p) ?_)
      refine ih (p + 1) f s2 (by omega) (by omega) ?_
      intro q hq
      by_cases e2 : q = p
      · subst e2; exact e
      · exact hs q (by omega)
    · exact br_f e (k0 (fun h => e (h p (by omega))) s2)
theorem so_yagr {post : Int32 → SY → Prop} {cl : Nat} {st ex : Int32} {cO cA cB tb vl : Nat → Int32} (hn : 1 ≤ ni) (hn3 : ni ≤ 3) (hC : so_C ni cl cO cA cB) (hw : w * ni ≤ 8) (hl : ts ≤ 4) (ok : so_ok ni ts yA yB)
    (hT : ∀ q, q < 2 ^ (w * ni) → tb q = so_run ni w (nI q) yO yA yB ts)
    (k1 : so_ag ni w (2 ^ (w * ni)) cl cO cA cB tb → ∀ vl, post 1 ((nI ml), (nI w), (nI ni), st, (nI ts), (nI cl), ex, yO, yA, yB, cO, cA, cB, vl))
    (k0 : ¬ so_ag ni w (2 ^ (w * ni)) cl cO cA cB tb → ∀ vl, post 0 ((nI ml), (nI w), (nI ni), st, (nI ts), (nI cl), ex, yO, yA, yB, cO, cA, cB, vl)) : wpY_agrees post ((nI ml), (nI w), (nI ni), st, (nI ts), (nI cl), ex, yO, yA, yB, cO, cA, cB, vl) :=
  nm_r (so_tot hw) ⟨2 ^ (w * ni) + 1, so_y14 hn hn3 hC (so_tot_le hw) hl ok hT k1 k0 (2 ^ (w * ni)) 0 (2 ^ (w * ni) + 1) vl (by omega) (by omega) (fun q hq => absurd hq (by omega))⟩
/-- X's search with d tries left ends at the outcome -/
def so_SX (ml w ni ts : Nat) (tO tA tB tb : Nat → Int32) (d cl : Nat) (ex : Int32) (cO cA cB : Nat → Int32) (st' ex' : Int32) (cl' : Nat) (cO' cA' cB' : Nat → Int32) : Prop :=
  ∀ (post : Int32 → SX → Prop) (fuel : Nat) (sl : Nat → Int32), d < fuel → (∀ sl, post st' ((nI ml), (nI w), (nI ni), (so_mk w), st', (nI ts), ex', (nI cl'), tO, tA, tB, cO', cA', cB', sl, tb)) → wX_search_33 post (nI (2 ^ (w * ni))) fuel (nI d) (nI ml) (nI w) (nI ni) (so_mk w) 1 (nI ts) ex (nI cl) tO tA tB cO cA cB sl tb
/-- and Y's -/
def so_SY (ml w ni ts : Nat) (yO yA yB : Nat → Int32) (d cl : Nat) (ex : Int32) (cO cA cB : Nat → Int32) (st' ex' : Int32) (cl' : Nat) (cO' cA' cB' : Nat → Int32) : Prop :=
  ∀ (post : Int32 → SY → Prop) (fuel : Nat) (vl : Nat → Int32), d < fuel → (∀ vl, post st' ((nI ml), (nI w), (nI ni), st', (nI ts), (nI cl'), ex', yO, yA, yB, cO', cA', cB', vl)) → wY_search_9 post fuel (nI d) (nI ml) (nI w) (nI ni) 1 (nI ts) (nI cl) ex yO yA yB cO cA cB vl
/-- one outcome of the search for both sides -/
def so_SO (ml w ni ts : Nat) (tO tA tB tb yO yA yB : Nat → Int32) (d cl : Nat) (ex : Int32) (cO cA cB : Nat → Int32) : Prop :=
  ∃ (st' ex' : Int32) (cl' : Nat) (cO' cA' cB' : Nat → Int32), (st' = 1 ∨ st' = 2) ∧ so_C ni cl' cO' cA' cB' ∧
    so_SX ml w ni ts tO tA tB tb d cl ex cO cA cB st' ex' cl' cO' cA' cB' ∧ so_SY ml w ni ts yO yA yB d cl ex cO cA cB st' ex' cl' cO' cA' cB'
theorem so_sx0 {cl : Nat} {ex : Int32} {cO cA cB tb : Nat → Int32} : so_SX ml w ni ts tO tA tB tb 0 cl ex cO cA cB 1 ex cl cO cA cB := by
  intro post fuel sl hf hp
  obtain ⟨f, rfl, -⟩ := so_succ hf
  exact br_t (by decide) (hp sl)
theorem so_sy0 {cl : Nat} {ex : Int32} {cO cA cB : Nat → Int32} : so_SY ml w ni ts yO yA yB 0 cl ex cO cA cB 1 ex cl cO cA cB := by
  intro post fuel vl hf hp
  obtain ⟨f, rfl, -⟩ := so_succ hf
  exact br_t (by decide) (hp vl)
theorem so_sxs {d cl : Nat} {ex : Int32} {cO cA cB tb : Nat → Int32} {st' ex' : Int32} {cl' : Nat} {cO' cA' cB' : Nat → Int32} (hn : 1 ≤ ni) (hn3 : ni ≤ 3) (hC : so_C ni cl cO cA cB) (hw : w * ni ≤ 8) (hd : d + 1 < 2 ^ 31)
    (k1 : so_ag ni w (2 ^ (w * ni)) cl cO cA cB tb → st' = 2 ∧ ex' = ex + 1 ∧ cl' = cl ∧ cO' = cO ∧ cA' = cA ∧ cB' = cB)
    (k0 : ¬ so_ag ni w (2 ^ (w * ni)) cl cO cA cB tb → ∃ (cl2 : Nat) (cO2 cA2 cB2 : Nat → Int32), so_AX ml w ni cl cl cO cA cB cl2 cO2 cA2 cB2 ∧ so_SX ml w ni ts tO tA tB tb d cl2 (ex + 1) cO2 cA2 cB2 st' ex' cl' cO' cA' cB') :
    so_SX ml w ni ts tO tA tB tb (d + 1) cl ex cO cA cB st' ex' cl' cO' cA' cB' := by
  intro post fuel sl hf hp
  obtain ⟨f, rfl, hf⟩ := so_succ hf
  have ht := so_tot_le hw
  rw [wX_search_33]
  refine br_f (nI_nle (by omega) (by omega)) (nm_r (nI_pred d) (nm_e ⟨2 ^ (w * ni) + 2, ?_⟩))
  refine so_x57 hn hn3 hC ht ?_ ?_ (2 ^ (w * ni)) 0 _ sl (by omega) (by omega) (fun q hq => absurd hq (by omega))
  · intro ag s
    obtain ⟨rfl, rfl, rfl, rfl, rfl, rfl⟩ := k1 ag
    unfold wX_search_109
    exact br_f (by decide) (hp s)
  · intro ag s
    obtain ⟨cl2, cO2, cA2, cB2, hA, hS⟩ := k0 ag
    unfold wX_search_109
    refine br_t rfl ?_
    unfold wpX_advance
    dsimp only
    refine nm_e ⟨cl + 1, ?_⟩
    refine hA _ (cl + 1) ts 1 (ex + 1) tO tA tB s tb (by omega) ?_
    dsimp only
    exact hS post f s (by omega) hp
theorem so_sys {d cl : Nat} {ex : Int32} {cO cA cB tb : Nat → Int32} {st' ex' : Int32} {cl' : Nat} {cO' cA' cB' : Nat → Int32} (hn : 1 ≤ ni) (hn3 : ni ≤ 3) (hC : so_C ni cl cO cA cB) (hw : w * ni ≤ 8) (hd : d + 1 < 2 ^ 31) (hl : ts ≤ 4) (ok : so_ok ni ts yA yB)
    (hT : ∀ q, q < 2 ^ (w * ni) → tb q = so_run ni w (nI q) yO yA yB ts)
    (k1 : so_ag ni w (2 ^ (w * ni)) cl cO cA cB tb → st' = 2 ∧ ex' = ex + 1 ∧ cl' = cl ∧ cO' = cO ∧ cA' = cA ∧ cB' = cB)
    (k0 : ¬ so_ag ni w (2 ^ (w * ni)) cl cO cA cB tb → ∃ (cl2 : Nat) (cO2 cA2 cB2 : Nat → Int32), so_AY ml w ni cl cl cO cA cB cl2 cO2 cA2 cB2 ∧ so_SY ml w ni ts yO yA yB d cl2 (ex + 1) cO2 cA2 cB2 st' ex' cl' cO' cA' cB') :
    so_SY ml w ni ts yO yA yB (d + 1) cl ex cO cA cB st' ex' cl' cO' cA' cB' := by
  intro post fuel vl hf hp
  obtain ⟨f, rfl, hf⟩ := so_succ hf
  rw [wY_search_9]
  refine br_f (nI_nle (by omega) (by omega)) (br_t rfl (nm_r (nI_pred d) (nm_e ?_)))
  refine so_yagr hn hn3 hC hw hl ok hT ?_ ?_
  · intro ag s
    obtain ⟨rfl, rfl, rfl, rfl, rfl, rfl⟩ := k1 ag
    dsimp only
    refine br_f (by decide) ?_
    obtain ⟨g, rfl⟩ : ∃ g, f = g + 1 := ⟨f - 1, by omega⟩
    rw [wY_search_9]
    exact br_c (fun _ => hp s) (fun _ => br_f (by decide) (hp s))
  · intro ag s
    obtain ⟨cl2, cO2, cA2, cB2, hA, hS⟩ := k0 ag
    dsimp only
    refine br_t rfl ?_
    unfold wpY_advance
    dsimp only
    refine nm_e ⟨cl + 1, ?_⟩
    refine hA _ (cl + 1) ts 1 (ex + 1) yO yA yB s (by omega) ?_
    dsimp only
    exact hS post f s (by omega) hp
theorem so_srch {tb : Nat → Int32} (hn : 1 ≤ ni) (hn3 : ni ≤ 3) (hw : w * ni ≤ 8) (hl : ts ≤ 4) (ok : so_ok ni ts yA yB) (hT : ∀ q, q < 2 ^ (w * ni) → tb q = so_run ni w (nI q) yO yA yB ts) :
    ∀ (d cl : Nat) (ex : Int32) (cO cA cB : Nat → Int32), d < 2 ^ 31 → so_C ni cl cO cA cB → so_SO ml w ni ts tO tA tB tb yO yA yB d cl ex cO cA cB := by
  intro d
  induction d with
  | zero => exact fun cl ex cO cA cB _ hC => ⟨1, ex, cl, cO, cA, cB, Or.inl rfl, hC, so_sx0, so_sy0⟩
  | succ d ih =>
    intro cl ex cO cA cB hd hC
    by_cases ag : so_ag ni w (2 ^ (w * ni)) cl cO cA cB tb
    · exact ⟨2, ex + 1, cl, cO, cA, cB, Or.inr rfl, hC,
        so_sxs hn hn3 hC hw hd (fun _ => ⟨rfl, rfl, rfl, rfl, rfl, rfl⟩) (fun h => absurd ag h),
        so_sys hn hn3 hC hw hd hl ok hT (fun _ => ⟨rfl, rfl, rfl, rfl, rfl, rfl⟩) (fun h => absurd ag h)⟩
    · obtain ⟨cl2, cO2, cA2, cB2, hC2, hX, hY⟩ := so_adv (ml := ml) (w := w) (cl := cl) hn hn3 cl cO cA cB hC.1 hC
      obtain ⟨st', ex', cl', cO', cA', cB', hst, hC', hSX, hSY⟩ := ih cl2 (ex + 1) cO2 cA2 cB2 (by omega) hC2
      exact ⟨st', ex', cl', cO', cA', cB', hst, hC',
        so_sxs hn hn3 hC hw hd (fun h => absurd h ag) (fun _ => ⟨cl2, cO2, cA2, cB2, hX, hSX⟩),
        so_sys hn hn3 hC hw hd hl ok hT (fun h => absurd h ag) (fun _ => ⟨cl2, cO2, cA2, cB2, hY, hSY⟩)⟩
end
end
section
/-! the constructors: one clamp on both sides -/
def so_cp (hi : Nat) (x : Int32) : Nat := if 1 ≤ x then (if x ≤ nI hi then x.toNatClampNeg else hi) else 1
theorem so_cpE {hi : Nat} {x : Int32} (h1 : 1 ≤ x) (h2 : x ≤ nI hi) (hh : hi < 2 ^ 31) : x = nI (so_cp hi x) ∧ 1 ≤ so_cp hi x ∧ so_cp hi x ≤ hi := by
  have h0 : ¬ x < 0 := Int32.not_lt.mpr (Int32.le_trans (by decide) h1)
  obtain ⟨j, hj, rfl⟩ := nI_of h0
  have e : so_cp hi (nI j) = j := by
    unfold so_cp
    rw [if_pos h1, if_pos h2, nI_clamp hj]
  rw [e]
  refine ⟨rfl, ?_, (nI_leI hj hh).mp h2⟩
  exact (nI_leI (a := 1) (by decide) hj).mp h1
theorem so_cpR {hi : Nat} {x : Int32} (h1 : 1 ≤ hi) (hh : hi < 2 ^ 31) : 1 ≤ so_cp hi x ∧ so_cp hi x ≤ hi := by
  by_cases c1 : 1 ≤ x
  · by_cases c2 : x ≤ nI hi
    · exact (so_cpE c1 c2 hh).2
    · unfold so_cp
      rw [if_pos c1, if_neg c2]
      exact ⟨h1, Nat.le_refl _⟩
  · unfold so_cp
    rw [if_neg c1]
    exact ⟨Nat.le_refl _, h1⟩
theorem so_clY {P : Int32 → Prop} {x : Int32} (hi : Nat) (hh : hi < 2 ^ 31) (h : P (nI (so_cp hi x))) : ((1 ≤ x → ((x ≤ nI hi → P x) ∧ (¬ x ≤ nI hi → P (nI hi)))) ∧ (¬ 1 ≤ x → P 1)) := by
  refine br_c (fun c1 => br_c (fun c2 => ?_) fun c2 => ?_) fun c1 => ?_
  · rw [(so_cpE c1 c2 hh).1]; exact h
  · unfold so_cp at h
    rw [if_pos c1, if_neg c2] at h
    exact h
  · unfold so_cp at h
    rw [if_neg c1] at h
    exact h
theorem so_clX {P : Int32 → Prop} {x : Int32} (hi : Nat) (h1 : 1 ≤ hi) (hh : hi < 2 ^ 31) (h : P (nI (so_cp hi x))) : ((1 ≤ x → ((x ≤ nI hi → P x) ∧ (¬ x ≤ nI hi → P (nI hi)))) ∧ (¬ 1 ≤ x → (((1 : Int32) ≤ nI hi → P 1) ∧ (¬ (1 : Int32) ≤ nI hi → P (nI hi))))) := by
  obtain ⟨a, b⟩ := so_clY hi hh h
  exact br_c a fun c1 => br_t (nI_le (a := 1) h1 hh) (b c1)
/-- the width, cut to eight bits over all inputs -/
def so_wd (w0 ni : Nat) : Nat := if w0 * ni ≤ 8 then w0 else 8 / ni
theorem so_div : ∀ ni, ni < 4 → 1 ≤ ni → (8 : Int32) / nI ni = nI (8 / ni) := by decide +kernel
theorem so_wdR {w0 ni : Nat} (h1 : 1 ≤ w0) (hn : 1 ≤ ni) (hn3 : ni ≤ 3) : 1 ≤ so_wd w0 ni ∧ so_wd w0 ni * ni ≤ 8 := by
  unfold so_wd
  by_cases c : w0 * ni ≤ 8
  · rw [if_pos c]; exact ⟨h1, c⟩
  · rw [if_neg c]
    refine ⟨?_, Nat.div_mul_le_self 8 ni⟩
    have h3 : ni = 1 ∨ ni = 2 ∨ ni = 3 := by omega
    rcases h3 with rfl | rfl | rfl <;> decide
theorem so_wdP {P : Int32 → Prop} {w0 ni : Nat} (hw : w0 ≤ 8) (hn : 1 ≤ ni) (hn3 : ni ≤ 3) (h : P (nI (so_wd w0 ni))) : (((nI w0 * nI ni) ≤ 8 → P (nI w0)) ∧ (¬ (nI w0 * nI ni) ≤ 8 → (¬ nI ni = 0 ∧ (∀ x : Int32, x = 8 / nI ni → P x)))) := by
  have hb : w0 * ni ≤ 8 * 3 := Nat.mul_le_mul hw hn3
  rw [so_mul]
  unfold so_wd at h
  by_cases c : w0 * ni ≤ 8
  · rw [if_pos c] at h
    exact br_t (nI_le (b := 8) c (by omega)) h
  · rw [if_neg c] at h
    exact br_f (nI_ge (a := 8) (by omega) (by omega)) ⟨nI_ne0 (by omega) (by omega), nm_r (so_div ni (by omega) hn) h⟩
section
variable {p0 p1 p2 : Int32}
theorem so_xinit {post : SX → Prop} (h : ∀ ml w ni : Nat, ml = so_cp 4 p0 → ni = so_cp 3 p2 → w = so_wd (so_cp 8 p1) ni → post ((nI ml), (nI w), (nI ni), (so_mk w), 0, 0, 0, 0, (fun _ => 0), (fun _ => 0), (fun _ => 0), (fun _ => 0), (fun _ => 0), (fun _ => 0), (fun _ => 0), (fun _ => 0))) : wpX_init post p0 p1 p2 := by
  have hn := so_cpR (hi := 3) (x := p2) (by decide) (by decide)
  have hw := so_cpR (hi := 8) (x := p1) (by decide) (by decide)
  unfold wpX_init wX_init_16
  refine so_clX (P := fun y => wX_init_25 post p1 p2 y 0 0 0 0 0 0 0 0) 4 (by decide) (by decide) ?_
  unfold wX_init_25 wX_init_37
  refine so_clX (P := fun y => wX_init_46 post p1 _ y 0 0 0 0 0 0 0 0) 3 (by decide) (by decide) ?_
  unfold wX_init_46 wX_init_58
  refine so_clX (P := fun y => wX_init_69 post _ _ y 0 0 0 0 0 0 0 0) 8 (by decide) (by decide) ?_
  unfold wX_init_69
  refine so_wdP (P := fun y => wX_init_86 post _ _ y 0 0 0 0 0 0 0 0) hw.2 hn.1 hn.2 ?_
  unfold wX_init_86
  exact nm_e (h _ _ _ rfl rfl rfl)
theorem so_yinit {post : SY → Prop} (h : ∀ ml w ni : Nat, ml = so_cp 4 p0 → ni = so_cp 3 p2 → w = so_wd (so_cp 8 p1) ni → post ((nI ml), (nI w), (nI ni), 0, 0, 0, 0, (fun _ => 0), (fun _ => 0), (fun _ => 0), (fun _ => 0), (fun _ => 0), (fun _ => 0), (fun _ => 0))) : wpY_init post p0 p1 p2 := by
  have hn := so_cpR (hi := 3) (x := p2) (by decide) (by decide)
  have hw := so_cpR (hi := 8) (x := p1) (by decide) (by decide)
  unfold wpY_init
  refine so_clY (P := fun y => wY_init_24 post p1 p2 y 0 0 0 0 0 0 0) 4 (by decide) ?_
  unfold wY_init_24
  refine so_clY (P := fun y => wY_init_47 post p1 y (nI (so_cp 4 p0)) 0 0 0 0 0 0) 3 (by decide) ?_
  unfold wY_init_47
  refine so_clY (P := fun y => wY_init_72 post y (nI (so_cp 4 p0)) 0 (nI (so_cp 3 p2)) 0 0 0 0) 8 (by decide) ?_
  unfold wY_init_72
  refine so_wdP (P := fun y => wY_init_100 post (nI (so_cp 4 p0)) y (nI (so_cp 3 p2)) 0 0 0 0) hw.2 hn.1 hn.2 ?_
  unfold wY_init_100
  exact h _ _ _ rfl rfl rfl
end
end
section
/-! the relation -/
/-- what holds between the fields and arrays of the two objects -/
def so_F (ml w ni ts cl : Nat) (st : Int32) (tO tA tB cO cA cB tb yO yA yB : Nat → Int32) : Prop :=
  (1 ≤ ml ∧ ml ≤ 4) ∧ (1 ≤ ni ∧ ni ≤ 3) ∧ (1 ≤ w ∧ w * ni ≤ 8) ∧ ts ≤ ml ∧ (st = 0 ∨ st = 1 ∨ st = 2) ∧ so_ok ni ts tA tB ∧
  (∀ i, i < ts → yO i = tO i ∧ yA i = tA i ∧ yB i = tB i) ∧ so_C ni cl cO cA cB ∧
  (st = 1 → ∀ q, q < 2 ^ (w * ni) → tb q = so_run ni w (nI q) tO tA tB ts)
def i_Rel (k : Nat) (u : SX) (v : SY) : Prop :=
  ∃ (ml w ni ts cl : Nat) (st ex : Int32) (tO tA tB cO cA cB sl tb yO yA yB vl : Nat → Int32),
    so_F ml w ni ts cl st tO tA tB cO cA cB tb yO yA yB ∧ u = ((nI ml), (nI w), (nI ni), (so_mk w), st, (nI ts), ex, (nI cl), tO, tA, tB, cO, cA, cB, sl, tb) ∧ v = ((nI ml), (nI w), (nI ni), st, (nI ts), (nI cl), ex, yO, yA, yB, cO, cA, cB, vl)
theorem i_up {k : Nat} {u : SX} {v : SY} (h : i_Rel k u v) : i_Rel (k + 4) u v := h
theorem so_el {k : Nat} {u : SX} {v : SY} {P : SX → SY → Prop}
    (h : ∀ (ml w ni ts cl : Nat) (st ex : Int32) (tO tA tB cO cA cB sl tb yO yA yB vl : Nat → Int32), so_F ml w ni ts cl st tO tA tB cO cA cB tb yO yA yB → P ((nI ml), (nI w), (nI ni), (so_mk w), st, (nI ts), ex, (nI cl), tO, tA, tB, cO, cA, cB, sl, tb) ((nI ml), (nI w), (nI ni), st, (nI ts), (nI cl), ex, yO, yA, yB, cO, cA, cB, vl))
    (I : i_Rel k u v) : P u v := by
  obtain ⟨ml, w, ni, ts, cl, st, ex, tO, tA, tB, cO, cA, cB, sl, tb, yO, yA, yB, vl, F, hu, hv⟩ := I
  rw [hu, hv]
  exact h ml w ni ts cl st ex tO tA tB cO cA cB sl tb yO yA yB vl F
section
variable {k ml w ni ts cl : Nat} {st ex : Int32} {tO tA tB cO cA cB sl tb yO yA yB vl : Nat → Int32}
theorem so_R (F : so_F ml w ni ts cl st tO tA tB cO cA cB tb yO yA yB) : i_Rel k ((nI ml), (nI w), (nI ni), (so_mk w), st, (nI ts), ex, (nI cl), tO, tA, tB, cO, cA, cB, sl, tb) ((nI ml), (nI w), (nI ni), st, (nI ts), (nI cl), ex, yO, yA, yB, cO, cA, cB, vl) :=
  ⟨ml, w, ni, ts, cl, st, ex, tO, tA, tB, cO, cA, cB, sl, tb, yO, yA, yB, vl, F, rfl, rfl⟩
theorem so_Fy (F : so_F ml w ni ts cl st tO tA tB cO cA cB tb yO yA yB) : so_ok ni ts yA yB := by
  obtain ⟨-, -, -, -, -, ok, hy, -, -⟩ := F
  exact so_ok_c ok fun i hi => (hy i hi).2
theorem so_Fr (F : so_F ml w ni ts cl st tO tA tB cO cA cB tb yO yA yB) (p : Int32) : so_run ni w p yO yA yB ts = so_run ni w p tO tA tB ts := by
  obtain ⟨-, -, -, -, -, -, hy, -, -⟩ := F
  exact so_run_c hy
/-- the state behind reset -/
theorem so_F0 (hm : 1 ≤ ml ∧ ml ≤ 4) (hn : 1 ≤ ni ∧ ni ≤ 3) (hw : 1 ≤ w ∧ w * ni ≤ 8) : so_F ml w ni 0 0 0 tO tA tB (fun _ => 0) (fun _ => 0) (fun _ => 0) tb yO yA yB :=
  ⟨hm, hn, hw, by omega, Or.inl rfl, fun i hi => absurd hi (by omega), fun i hi => absurd hi (by omega), ⟨by omega, so_ok0 hn.1, so_z0, so_z0, so_z0⟩, fun h => absurd h (by decide)⟩
end
theorem i_vc0 (k0 : Int32) (k1 : Int32) (k2 : Int32) : wpX_init (fun u => wpY_init (fun v => i_Rel 3 u v) k0 k1 k2) k0 k1 k2 := by
  have hm := so_cpR (hi := 4) (x := k0) (by decide) (by decide)
  have hn := so_cpR (hi := 3) (x := k2) (by decide) (by decide)
  have hw := so_cpR (hi := 8) (x := k1) (by decide) (by decide)
  refine so_xinit fun ml w ni e1 e2 e3 => ?_
  refine so_yinit fun ml' w' ni' e1' e2' e3' => ?_
  cases e1'.trans e1.symm
  cases e2'.trans e2.symm
  cases e3'.trans e3.symm
  subst e1 e2
  have hw2 := so_wdR hw.1 hn.1 hn.2
  rw [← e3] at hw2
  exact so_R (so_F0 hm hn hw2)
theorem i_vc_maxLen {k : Nat} {u : SX} {v : SY} (I : i_Rel k u v) (hk : k + 4 ≤ 2051) : wpX_maxLen (fun r => wpY_maxLen (fun r' => r' = r ∧ i_Rel (k + 4) u v) v) u := by
  refine so_el (P := fun u v => wpX_maxLen (fun r => wpY_maxLen (fun r' => r' = r ∧ i_Rel (k + 4) u v) v) u) ?_ I
  intro ml w ni ts cl st ex tO tA tB cO cA cB sl tb yO yA yB vl F
  exact And.intro rfl (so_R F)
theorem i_vc_bits {k : Nat} {u : SX} {v : SY} (I : i_Rel k u v) (hk : k + 4 ≤ 2051) : wpX_bits (fun r => wpY_bits (fun r' => r' = r ∧ i_Rel (k + 4) u v) v) u := by
  refine so_el (P := fun u v => wpX_bits (fun r => wpY_bits (fun r' => r' = r ∧ i_Rel (k + 4) u v) v) u) ?_ I
  intro ml w ni ts cl st ex tO tA tB cO cA cB sl tb yO yA yB vl F
  exact And.intro rfl (so_R F)
theorem i_vc_numInputs {k : Nat} {u : SX} {v : SY} (I : i_Rel k u v) (hk : k + 4 ≤ 2051) : wpX_numInputs (fun r => wpY_numInputs (fun r' => r' = r ∧ i_Rel (k + 4) u v) v) u := by
  refine so_el (P := fun u v => wpX_numInputs (fun r => wpY_numInputs (fun r' => r' = r ∧ i_Rel (k + 4) u v) v) u) ?_ I
  intro ml w ni ts cl st ex tO tA tB cO cA cB sl tb yO yA yB vl F
  exact And.intro rfl (so_R F)
theorem i_vc_state {k : Nat} {u : SX} {v : SY} (I : i_Rel k u v) (hk : k + 4 ≤ 2051) : wpX_state (fun r => wpY_state (fun r' => r' = r ∧ i_Rel (k + 4) u v) v) u := by
  refine so_el (P := fun u v => wpX_state (fun r => wpY_state (fun r' => r' = r ∧ i_Rel (k + 4) u v) v) u) ?_ I
  intro ml w ni ts cl st ex tO tA tB cO cA cB sl tb yO yA yB vl F
  exact And.intro rfl (so_R F)
theorem i_vc_targetSize {k : Nat} {u : SX} {v : SY} (I : i_Rel k u v) (hk : k + 4 ≤ 2051) : wpX_targetSize (fun r => wpY_targetSize (fun r' => r' = r ∧ i_Rel (k + 4) u v) v) u := by
  refine so_el (P := fun u v => wpX_targetSize (fun r => wpY_targetSize (fun r' => r' = r ∧ i_Rel (k + 4) u v) v) u) ?_ I
  intro ml w ni ts cl st ex tO tA tB cO cA cB sl tb yO yA yB vl F
  exact And.intro rfl (so_R F)
theorem i_vc_examined {k : Nat} {u : SX} {v : SY} (I : i_Rel k u v) (hk : k + 4 ≤ 2051) : wpX_examined (fun r => wpY_examined (fun r' => r' = r ∧ i_Rel (k + 4) u v) v) u := by
  refine so_el (P := fun u v => wpX_examined (fun r => wpY_examined (fun r' => r' = r ∧ i_Rel (k + 4) u v) v) u) ?_ I
  intro ml w ni ts cl st ex tO tA tB cO cA cB sl tb yO yA yB vl F
  exact br_c (fun c => br_t c (And.intro rfl (so_R F))) (fun c => br_f c (And.intro rfl (so_R F)))
theorem i_vc_candSize {k : Nat} {u : SX} {v : SY} (I : i_Rel k u v) (hk : k + 4 ≤ 2051) : wpX_candSize (fun r => wpY_candSize (fun r' => r' = r ∧ i_Rel (k + 4) u v) v) u := by
  refine so_el (P := fun u v => wpX_candSize (fun r => wpY_candSize (fun r' => r' = r ∧ i_Rel (k + 4) u v) v) u) ?_ I
  intro ml w ni ts cl st ex tO tA tB cO cA cB sl tb yO yA yB vl F
  exact br_c (fun c => br_t c (And.intro rfl (so_R F))) (fun c => br_f c (And.intro rfl (so_R F)))
theorem i_vc_bestSize {k : Nat} {u : SX} {v : SY} (I : i_Rel k u v) (hk : k + 4 ≤ 2051) : wpX_bestSize (fun r => wpY_bestSize (fun r' => r' = r ∧ i_Rel (k + 4) u v) v) u := by
  refine so_el (P := fun u v => wpX_bestSize (fun r => wpY_bestSize (fun r' => r' = r ∧ i_Rel (k + 4) u v) v) u) ?_ I
  intro ml w ni ts cl st ex tO tA tB cO cA cB sl tb yO yA yB vl F
  exact br_c (fun c => br_t c (And.intro rfl (so_R F))) (fun c => br_f c (And.intro rfl (so_R F)))
/-- an index below a small size -/
theorem so_ix {x : Int32} {n N : Nat} (h0 : ¬ x < 0) (h : x < nI n) (hn : n ≤ N) (hN : N < 2 ^ 31) : ∃ j : Nat, j < n ∧ x = nI j := by
  obtain ⟨j, hj, rfl⟩ := nI_of h0
  exact ⟨j, (nI_ltI hj (by omega)).mp h, rfl⟩
theorem i_vc_targetField {k : Nat} {u : SX} {v : SY} (I : i_Rel k u v) (hk : k + 4 ≤ 2051) (v1 : Int32) (v2 : Int32) : wpX_targetField (fun r => wpY_targetField (fun r' => r' = r ∧ i_Rel (k + 4) u v) v v1 v2) u v1 v2 := by
  refine so_el (P := fun u v => wpX_targetField (fun r => wpY_targetField (fun r' => r' = r ∧ i_Rel (k + 4) u v) v v1 v2) u v1 v2) ?_ I
  intro ml w ni ts cl st ex tO tA tB cO cA cB sl tb yO yA yB vl F
  have F' := F
  obtain ⟨hm, hn, hw, hts, hst, ok, hy, hC, hT⟩ := F'
  have R : i_Rel (k + 4) ((nI ml), (nI w), (nI ni), (so_mk w), st, (nI ts), ex, (nI cl), tO, tA, tB, cO, cA, cB, sl, tb) ((nI ml), (nI w), (nI ni), st, (nI ts), (nI cl), ex, yO, yA, yB, cO, cA, cB, vl) := so_R F
  by_cases c0 : v1 < 0
  · exact br_t c0 (br_t c0 (And.intro rfl R))
  by_cases c1 : v1 < nI ts
  · obtain ⟨j, hj, rfl⟩ := so_ix c0 c1 hts (by omega)
    have ci : (nI j).toNatClampNeg = j := nI_clamp (by omega)
    have v4 : vp_in (nI j) 4 := vp_in_nI (by omega) (by omega)
    have v5 : vp_in (nI j) 5 := vp_in_nI (by omega) (by omega)
    have e := hy _ hj
    rw [← ci] at e
    exact br_f c0 (br_t c1 (br_c (fun d => ⟨v4, br_f c0 (br_t c1 (br_t d ⟨v5, e.1, R⟩))⟩) fun d0 => br_c (fun d => ⟨v4, br_f c0 (br_t c1 (br_f d0 (br_t d ⟨v5, e.2.1, R⟩)))⟩) fun d1 => br_c (fun d => ⟨v4, br_f c0 (br_t c1 (br_f d0 (br_f d1 (br_t d ⟨v5, e.2.2, R⟩))))⟩) fun d2 => br_f c0 (br_t c1 (br_f d0 (br_f d1 (br_f d2 (And.intro rfl R)))))))
  · exact br_f c0 (br_f c1 (br_f c0 (br_f c1 (And.intro rfl R))))
theorem i_vc_bestField {k : Nat} {u : SX} {v : SY} (I : i_Rel k u v) (hk : k + 4 ≤ 2051) (v1 : Int32) (v2 : Int32) : wpX_bestField (fun r => wpY_bestField (fun r' => r' = r ∧ i_Rel (k + 4) u v) v v1 v2) u v1 v2 := by
  refine so_el (P := fun u v => wpX_bestField (fun r => wpY_bestField (fun r' => r' = r ∧ i_Rel (k + 4) u v) v v1 v2) u v1 v2) ?_ I
  intro ml w ni ts cl st ex tO tA tB cO cA cB sl tb yO yA yB vl F
  have F' := F
  obtain ⟨hm, hn, hw, hts, hst, ok, hy, hC, hT⟩ := F'
  have R : i_Rel (k + 4) ((nI ml), (nI w), (nI ni), (so_mk w), st, (nI ts), ex, (nI cl), tO, tA, tB, cO, cA, cB, sl, tb) ((nI ml), (nI w), (nI ni), st, (nI ts), (nI cl), ex, yO, yA, yB, cO, cA, cB, vl) := so_R F
  by_cases cs : st = 2
  · by_cases c0 : v1 < 0
    · exact br_t cs (br_t c0 (br_t cs (br_t c0 (And.intro rfl R))))
    by_cases c1 : v1 < nI cl
    · obtain ⟨j, hj, rfl⟩ := so_ix c0 c1 hC.1 (by omega)
      have h4 := hC.1
      have v4 : vp_in (nI j) 4 := vp_in_nI (by omega) (by omega)
      have v5 : vp_in (nI j) 5 := vp_in_nI (by omega) (by omega)
      exact br_t cs (br_f c0 (br_t c1 (br_c (fun d => ⟨v4, br_t cs (br_f c0 (br_t c1 (br_t d ⟨v5, rfl, R⟩)))⟩) fun d0 => br_c (fun d => ⟨v4, br_t cs (br_f c0 (br_t c1 (br_f d0 (br_t d ⟨v5, rfl, R⟩))))⟩) fun d1 => br_c (fun d => ⟨v4, br_t cs (br_f c0 (br_t c1 (br_f d0 (br_f d1 (br_t d ⟨v5, rfl, R⟩)))))⟩) fun d2 => br_t cs (br_f c0 (br_t c1 (br_f d0 (br_f d1 (br_f d2 (And.intro rfl R)))))))))
    · exact br_t cs (br_f c0 (br_f c1 (br_t cs (br_f c0 (br_f c1 (And.intro rfl R))))))
  · exact br_f cs (br_f cs (And.intro rfl R))
end
section
/-! emit -/
/-- what emit asks -/
def so_eo (ml ni ts : Nat) (st v1 v2 v3 : Int32) : Prop := st = 0 ∧ nI ts < nI ml ∧ ¬ v1 < 0 ∧ v1 < 8 ∧ ¬ v2 < 0 ∧ v2 < nI ni + nI ts ∧ ¬ v3 < 0 ∧ v3 < nI ni + nI ts
section
variable {ml w ni ts cl : Nat} {st ex v1 v2 v3 : Int32} {tO tA tB cO cA cB sl tb yO yA yB vl : Nat → Int32}
theorem so_xem0 {post : Int32 → SX → Prop} (h : ¬ so_eo ml ni ts st v1 v2 v3) (hp : post 0 ((nI ml), (nI w), (nI ni), (so_mk w), st, (nI ts), ex, (nI cl), tO, tA, tB, cO, cA, cB, sl, tb)) : wpX_emit post ((nI ml), (nI w), (nI ni), (so_mk w), st, (nI ts), ex, (nI cl), tO, tA, tB, cO, cA, cB, sl, tb) v1 v2 v3 := by
  unfold wpX_emit
  dsimp only
  exact br_c (fun h0 => br_c (fun h1 => br_c (fun _ => hp) (fun h2 => br_c (fun h3 => nm_e (br_c (fun _ => hp) (fun h4 => br_c (fun h5 => br_c (fun _ => hp) (fun h6 => br_c (fun h7 => absurd ⟨h0, h1, h2, h3, h4, h5, h6, h7⟩ h) (fun _ => hp))) (fun _ => hp)))) (fun _ => hp))) (fun _ => hp)) (fun _ => hp)
theorem so_yem0 {post : Int32 → SY → Prop} (h : ¬ so_eo ml ni ts st v1 v2 v3) (hp : post 0 ((nI ml), (nI w), (nI ni), st, (nI ts), (nI cl), ex, yO, yA, yB, cO, cA, cB, vl)) : wpY_emit post ((nI ml), (nI w), (nI ni), st, (nI ts), (nI cl), ex, yO, yA, yB, cO, cA, cB, vl) v1 v2 v3 := by
  unfold wpY_emit
  dsimp only
  exact br_c (fun h0 => br_c (fun h1 => br_c (fun _ => hp) (fun h2 => br_c (fun h3 => nm_e (br_c (fun _ => hp) (fun h4 => br_c (fun _ => hp) (fun h5 => br_c (fun _ => hp) (fun h6 => br_c (fun h7 => absurd ⟨h0, h1, h2, h3, h4, Int32.not_le.mp h5, h6, h7⟩ h) (fun _ => hp)))))) (fun _ => hp))) (fun _ => hp)) (fun _ => hp)
theorem so_xem1 {post : Int32 → SX → Prop} (h : so_eo ml ni ts st v1 v2 v3) (vi : vp_in (nI ts) 4) (hp : post 1 ((nI ml), (nI w), (nI ni), (so_mk w), st, (nI ts + 1), ex, (nI cl), (upd tO (nI ts).toNatClampNeg v1), (upd tA (nI ts).toNatClampNeg v2), (upd tB (nI ts).toNatClampNeg v3), cO, cA, cB, sl, tb)) : wpX_emit post ((nI ml), (nI w), (nI ni), (so_mk w), st, (nI ts), ex, (nI cl), tO, tA, tB, cO, cA, cB, sl, tb) v1 v2 v3 := by
  obtain ⟨h0, h1, h2, h3, h4, h5, h6, h7⟩ := h
  unfold wpX_emit
  dsimp only
  exact br_t h0 (br_t h1 (br_f h2 (br_t h3 (nm_e (br_f h4 (br_t h5 (br_f h6 (br_t h7 ⟨vi, nm_e ⟨vi, nm_e ⟨vi, nm_e (nm_e hp)⟩⟩⟩))))))))
theorem so_yem1 {post : Int32 → SY → Prop} (h : so_eo ml ni ts st v1 v2 v3) (vi : vp_in (nI ts) 5) (hp : post 1 ((nI ml), (nI w), (nI ni), st, (nI ts + 1), (nI cl), ex, (upd yO (nI ts).toNatClampNeg v1), (upd yA (nI ts).toNatClampNeg v2), (upd yB (nI ts).toNatClampNeg v3), cO, cA, cB, vl)) : wpY_emit post ((nI ml), (nI w), (nI ni), st, (nI ts), (nI cl), ex, yO, yA, yB, cO, cA, cB, vl) v1 v2 v3 := by
  obtain ⟨h0, h1, h2, h3, h4, h5, h6, h7⟩ := h
  unfold wpY_emit
  dsimp only
  exact br_t h0 (br_t h1 (br_f h2 (br_t h3 (nm_e (br_f h4 (br_f (Int32.not_le.mpr h5) (br_f h6 (br_t h7 ⟨vi, nm_e ⟨vi, nm_e ⟨vi, nm_e (nm_e hp)⟩⟩⟩))))))))
end
theorem i_vc_emit {k : Nat} {u : SX} {v : SY} (I : i_Rel k u v) (hk : k + 4 ≤ 2051) (v1 : Int32) (v2 : Int32) (v3 : Int32) : wpX_emit (fun r u' => wpY_emit (fun r' v' => r' = r ∧ i_Rel (k + 4) u' v') v v1 v2 v3) u v1 v2 v3 := by
  refine so_el (P := fun u v => wpX_emit (fun r u' => wpY_emit (fun r' v' => r' = r ∧ i_Rel (k + 4) u' v') v v1 v2 v3) u v1 v2 v3) ?_ I
  intro ml w ni ts cl st ex tO tA tB cO cA cB sl tb yO yA yB vl F
  have F' := F
  obtain ⟨hm, hn, hw, hts, hst, ok, hy, hC, hT⟩ := F'
  by_cases h : so_eo ml ni ts st v1 v2 v3
  · have h' := h
    obtain ⟨h0, h1, h2, h3, h4, h5, h6, h7⟩ := h'
    have ht : ts < ml := (nI_ltI (by omega) (by omega)).mp h1
    rw [nI_add] at h5 h7
    obtain ⟨a, ha, ea⟩ := so_ix h4 h5 (Nat.le_refl _) (by omega)
    obtain ⟨b, hb, eb⟩ := so_ix h6 h7 (Nat.le_refl _) (by omega)
    refine so_xem1 h (vp_in_nI (by omega) (by omega)) (so_yem1 h (vp_in_nI (by omega) (by omega)) (And.intro rfl ?_))
    rw [nI_1, nI_clamp (by omega)]
    refine so_R ⟨hm, hn, hw, ht, hst, ?_, ?_, hC, fun e => absurd (h0.symm.trans e) (by decide)⟩
    · rw [ea, eb]; exact so_okP ok ha hb
    · intro i hi
      by_cases e : i = ts
      · subst e; exact ⟨so_us.trans so_us.symm, so_us.trans so_us.symm, so_us.trans so_us.symm⟩
      · rw [so_un e, so_un e, so_un e, so_un e, so_un e, so_un e]
        exact hy i (by omega)
  · exact so_xem0 h (so_yem0 h (And.intro rfl (so_R F)))
end
section
/-! begin, search, evalTarget, evalBest, reset -/
theorem i_vc_begin {k : Nat} {u : SX} {v : SY} (I : i_Rel k u v) (hk : k + 4 ≤ 2051) : wpX_begin (fun r u' => wpY_begin (fun r' v' => r' = r ∧ i_Rel (k + 4) u' v') v) u := by
  refine so_el (P := fun u v => wpX_begin (fun r u' => wpY_begin (fun r' v' => r' = r ∧ i_Rel (k + 4) u' v') v) u) ?_ I
  intro ml w ni ts cl st ex tO tA tB cO cA cB sl tb yO yA yB vl F
  have F' := F
  obtain ⟨hm, hn, hw, hts, hst, ok, hy, hC, hT⟩ := F'
  unfold wpX_begin
  dsimp only
  unfold wpY_begin
  dsimp only
  by_cases c0 : st = 0
  · by_cases c1 : nI ts = 0
    · exact br_t c0 (br_t c1 (br_t c0 (br_t c1 (And.intro rfl (so_R F)))))
    · refine br_t c0 (br_f c1 (nm_r (so_tot hw.2) ⟨2 ^ (w * ni) + 1, ?_⟩))
      refine so_x32 hn.1 hn.2 (by omega) ok (so_tot_le hw.2) hC.2.2.1 hC.2.2.2.1 hC.2.2.2.2 ?_ (2 ^ (w * ni)) 0 _ sl tb (by omega) (by omega) (fun q hq => absurd hq (by omega))
      intro sl' tb' hT'
      refine br_t c0 (br_f c1 ?_)
      refine so_yclr hC.2.2.1 hC.2.2.2.1 hC.2.2.2.2 ?_
      dsimp only
      exact And.intro rfl (so_R (cl := 0) ⟨hm, hn, hw, hts, Or.inr (Or.inl rfl), ok, hy, ⟨by omega, so_ok0 hn.1, so_z0, so_z0, so_z0⟩, fun _ => hT'⟩)
  · exact br_f c0 (br_f c0 (And.intro rfl (so_R F)))
theorem i_vc_search {k : Nat} {u : SX} {v : SY} (I : i_Rel k u v) (hk : k + 4 ≤ 2051) (v1 : Int32) : wpX_search (fun r u' => wpY_search (fun r' v' => r' = r ∧ i_Rel (k + 4) u' v') v v1) u v1 := by
  refine so_el (P := fun u v => wpX_search (fun r u' => wpY_search (fun r' v' => r' = r ∧ i_Rel (k + 4) u' v') v v1) u v1) ?_ I
  intro ml w ni ts cl st ex tO tA tB cO cA cB sl tb yO yA yB vl F
  have F' := F
  obtain ⟨hm, hn, hw, hts, hst, ok, hy, hC, hT⟩ := F'
  have oky := so_Fy F
  unfold wpX_search
  dsimp only
  unfold wpY_search
  dsimp only
  rcases hst with rfl | rfl | rfl
  · exact br_t rfl (br_t rfl (And.intro rfl (so_R F)))
  · by_cases c : v1 ≤ 0
    · refine br_f (by decide) (br_f (by decide) (nm_r (so_tot hw.2) ⟨1, ?_⟩))
      exact br_t c (br_f (by decide) ⟨1, br_t c (And.intro rfl (so_R F))⟩)
    · have c' : ¬ v1 < 0 := fun h => c (Int32.le_of_lt h)
      obtain ⟨d, hd, rfl⟩ := nI_of c'
      have hT2 : ∀ q, q < 2 ^ (w * ni) → tb q = so_run ni w (nI q) yO yA yB ts := fun q hq => (hT rfl q hq).trans (so_Fr F (nI q)).symm
      obtain ⟨st', ex', cl', cO', cA', cB', hst', hC', hSX, hSY⟩ := so_srch (ml := ml) (tO := tO) (tA := tA) (tB := tB) hn.1 hn.2 hw.2 (by omega) oky hT2 d cl ex cO cA cB hd hC
      refine br_f (by decide) (br_f (by decide) (nm_r (so_tot hw.2) ⟨d + 1, ?_⟩))
      refine hSX _ (d + 1) sl (by omega) fun sl' => ?_
      refine br_f (by decide) ⟨d + 1, ?_⟩
      refine hSY _ (d + 1) vl (by omega) fun vl' => ?_
      exact And.intro rfl (so_R ⟨hm, hn, hw, hts, Or.inr hst', ok, hy, hC', fun _ => hT rfl⟩)
  · refine br_f (by decide) (br_t rfl (br_f (by decide) ⟨1, ?_⟩))
    exact br_c (fun _ => And.intro rfl (so_R F)) (fun _ => br_f (by decide) (And.intro rfl (so_R F)))
theorem i_vc_evalTarget {k : Nat} {u : SX} {v : SY} (I : i_Rel k u v) (hk : k + 4 ≤ 2051) (v1 : Int32) : wpX_evalTarget (fun r u' => wpY_evalTarget (fun r' v' => r' = r ∧ i_Rel (k + 4) u' v') v v1) u v1 := by
  refine so_el (P := fun u v => wpX_evalTarget (fun r u' => wpY_evalTarget (fun r' v' => r' = r ∧ i_Rel (k + 4) u' v') v v1) u v1) ?_ I
  intro ml w ni ts cl st ex tO tA tB cO cA cB sl tb yO yA yB vl F
  have F' := F
  obtain ⟨hm, hn, hw, hts, hst, ok, hy, hC, hT⟩ := F'
  unfold wpX_evalTarget
  dsimp only
  refine so_xrun_t hn.1 hn.2 (by omega) ok fun sl' => ?_
  dsimp only
  unfold wpY_evalTarget
  dsimp only
  refine so_yrun_t hn.1 hn.2 (by omega) (so_Fy F) fun vl' => ?_
  dsimp only
  exact And.intro (so_Fr F v1) (so_R F)
theorem i_vc_evalBest {k : Nat} {u : SX} {v : SY} (I : i_Rel k u v) (hk : k + 4 ≤ 2051) (v1 : Int32) : wpX_evalBest (fun r u' => wpY_evalBest (fun r' v' => r' = r ∧ i_Rel (k + 4) u' v') v v1) u v1 := by
  refine so_el (P := fun u v => wpX_evalBest (fun r u' => wpY_evalBest (fun r' v' => r' = r ∧ i_Rel (k + 4) u' v') v v1) u v1) ?_ I
  intro ml w ni ts cl st ex tO tA tB cO cA cB sl tb yO yA yB vl F
  have F' := F
  obtain ⟨hm, hn, hw, hts, hst, ok, hy, hC, hT⟩ := F'
  unfold wpX_evalBest
  dsimp only
  unfold wpY_evalBest
  dsimp only
  by_cases c : st = 2
  · refine br_t c ?_
    refine so_xrun_c hn.1 hn.2 hC.1 (so_ok_le hC.2.1 hC.1) fun sl' => ?_
    dsimp only
    refine br_t c ?_
    refine so_yrun_c hn.1 hn.2 hC.1 (so_ok_le hC.2.1 hC.1) fun vl' => ?_
    dsimp only
    exact And.intro rfl (so_R F)
  · exact br_f c (br_f c (And.intro rfl (so_R F)))
theorem i_vc_reset {k : Nat} {u : SX} {v : SY} (I : i_Rel k u v) (hk : k + 4 ≤ 2051) : wpX_reset (fun u' => wpY_reset (fun v' => i_Rel (k + 4) u' v') v) u := by
  refine so_el (P := fun u v => wpX_reset (fun u' => wpY_reset (fun v' => i_Rel (k + 4) u' v') v) u) ?_ I
  intro ml w ni ts cl st ex tO tA tB cO cA cB sl tb yO yA yB vl F
  obtain ⟨hm, hn, hw, hts, hst, ok, hy, hC, hT⟩ := F
  refine so_xrst hC.2.2.1 hC.2.2.2.1 hC.2.2.2.2 fun tO' tA' tB' => ?_
  refine so_yrst hC.2.2.1 hC.2.2.2.1 hC.2.2.2.2 ?_
  exact so_R (ts := 0) (cl := 0) (so_F0 hm hn hw)
end
