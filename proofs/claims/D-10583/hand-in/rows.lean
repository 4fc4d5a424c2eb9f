section
/-- cell j of the walkers' array holds c j -/
def wk_on (a : Nat → Int32) (c : Nat → Nat) : Prop := ∀ j, j < 64 → a j = nI (c j)
/-- one walker at cell p; none if p is 64 or more -/
def wk_ind (p j : Nat) : Nat := if j = p then 1 else 0
/-- of x's bits below 8 the bit q alone is set; none if q is 8 or more -/
def wk_bits (x : Int32) (q : Nat) : Prop := ∀ w, w < 8 → (((x >>> (nI w &&& 31)) &&& 1) = 0 ↔ w ≠ q)
/-- a boolean of the bytecode says P -/
def wk_bv (P : Prop) (x : Int32) : Prop := (P ∧ x = 1) ∨ (¬ P ∧ x = 0)
theorem wk_bt {P : Prop} (h : P) : wk_bv P 1 := Or.inl ⟨h, rfl⟩
theorem wk_bf {P : Prop} (h : ¬ P) : wk_bv P 0 := Or.inr ⟨h, rfl⟩
theorem wk_br {P A B : Prop} {x : Int32} (h : wk_bv P x) (f : ¬ P → A) (g : P → B) : (x = 0 → A) ∧ (¬ x = 0 → B) := by
  rcases h with ⟨h, rfl⟩ | ⟨h, rfl⟩
  · exact ⟨fun z => absurd z (by decide), fun _ => g h⟩
  · exact ⟨fun _ => f h, fun z => absurd rfl z⟩
theorem wk_br1 {P A B : Prop} {x : Int32} (h : wk_bv P x) (f : P → A) (g : ¬ P → B) : (x = 1 → A) ∧ (¬ x = 1 → B) := by
  rcases h with ⟨h, rfl⟩ | ⟨h, rfl⟩
  · exact ⟨fun _ => f h, fun z => absurd rfl z⟩
  · exact ⟨fun z => absurd z (by decide), fun _ => g h⟩
theorem wk_iff {P Q : Prop} {x : Int32} (e : P ↔ Q) (h : wk_bv P x) : wk_bv Q x := by
  rcases h with ⟨h, rfl⟩ | ⟨h, rfl⟩
  · exact wk_bt (e.mp h)
  · exact wk_bf (fun z => h (e.mpr z))
theorem wk_ix (v s : Nat) : nI v * 8 + nI s = nI (v * 8 + s) := by
  rw [show (8 : Int32) = nI 8 from rfl, pk_mul, nI_add]
theorem wk_cl {v s : Nat} (h : v * 8 + s < 2 ^ 31) : (nI v * 8 + nI s).toNatClampNeg = v * 8 + s := by
  rw [wk_ix, nI_clamp h]
theorem wk_8 (v : Nat) : 8 + nI v = nI (8 + v) := by
  rw [show (8 : Int32) = nI 8 from rfl, nI_add]
theorem wk_mono {a : Nat → Int32} {c d : Nat → Nat} (h : wk_on a c) (e : ∀ j, j < 64 → c j = d j) : wk_on a d :=
  fun j hj => by rw [h j hj, e j hj]
theorem wk_put {a : Nat → Int32} {c d : Nat → Nat} {k i : Nat} {x : Int32} {m : Nat} (hk : k = i) (h : wk_on a c) (hx : x = nI m) (e : ∀ j, j < 64 → (if j = i then m else c j) = d j) : wk_on (upd a k x) d := by
  intro j hj
  rw [← e j hj, hk]
  by_cases z : j = i
  · rw [z, pk_us, if_pos rfl, hx]
  · rw [pk_un z, if_neg z, h j hj]
theorem wk_b0 : wk_bits 0 8 := by
  intro w hw
  revert w
  decide
theorem wk_b2 : wk_bits 2 1 := by
  intro w hw
  revert w
  decide
theorem wk_bsh : ∀ b, b < 8 → wk_bits ((0 ^^^ ((1 : Int32) <<< (nI b &&& 31))).toInt16.toInt32) b ∧ ¬ (0 ^^^ ((1 : Int32) <<< (nI b &&& 31))).toInt16.toInt32 = 0 := by
  unfold wk_bits
  decide +kernel
section
variable {e sz st kn : Int32} {a1 a2 a3 a4 a5 a6 a7 a8 : Nat → Int32} {c : Nat → Nat}
/-! the sum over the walkers' array -/
theorem wk_total {post : Int32 → Prop} {p : Nat} (h6 : wk_on a6 (wk_ind p)) (H : post (nI (if p < 64 then 1 else 0))) : wpX_total post (e, sz, st, kn, a1, a2, a3, a4, a5, a6, a7, a8) :=
  pk_loop (fun n i s => wX_total_4 post e sz st kn a1 a2 a3 a4 a5 a6 a7 a8 n s (nI i)) (fun i s => s = nI (if p < i then 1 else 0)) 64 0 0 (by omega) (by rfl)
    (fun n s h => pk_le 64 64 (fun _ => by rw [h]; exact H) (fun z => absurd z (by omega)))
    (fun n i s hi h hw => pk_le 64 i (fun z => absurd z (by omega)) (fun _ => ⟨pk_in i 64 hi, nm_e (nm_r (nI_1 i) (hw _ (by
      rw [h, nI_clamp (by omega), h6 i hi, nI_add]
      unfold wk_ind
      exact congrArg nI (by grind))))⟩))
/-! the sum over one vertex -/
theorem wk_at17 {post : Int32 → St2 → Prop} {p b : Nat} (hb : b < 8) (h6 : wk_on a6 (wk_ind p)) (H : post (nI (if p / 8 = b then 1 else 0)) (e, sz, st, kn, a1, a2, a3, a4, a5, a6, a7, a8)) :
    ∃ n, wX_at_17 post (nI b) e sz st kn a1 a2 a3 a4 a5 a6 a7 a8 n 0 0 :=
  pk_loop (fun n i s => wX_at_17 post (nI b) e sz st kn a1 a2 a3 a4 a5 a6 a7 a8 n s (nI i)) (fun i s => s = nI (if b * 8 ≤ p ∧ p < b * 8 + i then 1 else 0)) 8 0 0 (by omega) (by rw [if_neg (by omega)]; rfl)
    (fun n s h => pk_le 8 8 (fun _ => by
      have t : (if b * 8 ≤ p ∧ p < b * 8 + 8 then 1 else 0) = (if p / 8 = b then 1 else 0) := by grind
      rw [h, t]
      exact H) (fun z => absurd z (by omega)))
    (fun n i s hi h hw => pk_le 8 i (fun z => absurd z (by omega)) (fun _ => ⟨pk_in (b * 8 + i) 64 (by omega) (wk_ix b i), nm_e (nm_r (nI_1 i) (hw _ (by
      rw [h, wk_cl (by omega), h6 _ (by omega), nI_add]
      unfold wk_ind
      exact congrArg nI (by grind))))⟩))
/-! carry: vertex 1 alone has a walker (start 1) before the step -/
theorem wk_carry {post : St2 → Prop} {v w : Nat} (hv : v < 8) (hw : w < 8) (h6 : wk_on a6 c) (h7 : wk_on a7 (wk_ind 9))
    (H : ∀ a, wk_on a (fun j => c j + if v = 1 ∧ j = w * 8 + 1 then 1 else 0) → post (e, sz, st, kn, a1, a2, a3, a4, a5, a, a7, a8)) :
    wpX_carry post (e, sz, st, kn, a1, a2, a3, a4, a5, a6, a7, a8) (nI v) (nI w) :=
  pk_loop (fun n i s => wX_carry_2 post (nI v) (nI w) e sz st kn n (nI i) a1 a2 a3 a4 a5 s a7 a8)
    (fun i s => wk_on s (fun j => c j + if v = 1 ∧ j = w * 8 + 1 ∧ 1 < i then 1 else 0)) 8 0 a6 (by omega)
    (wk_mono h6 (fun j hj => by rw [if_neg (by omega)]; rfl))
    (fun n s h => pk_le 8 8 (fun _ => H s (wk_mono h (fun j hj => by grind))) (fun z => absurd z (by omega)))
    (fun n i s hi h hn => pk_le 8 i (fun z => absurd z (by omega)) (fun _ =>
      ⟨pk_in (w * 8 + i) 64 (by omega) (wk_ix w i), pk_in (v * 8 + i) 64 (by omega) (wk_ix v i), pk_in (w * 8 + i) 64 (by omega) (wk_ix w i),
        nm_e (nm_r (nI_1 i) (hn _ (wk_put (wk_cl (by omega)) h (by rw [wk_cl (by omega), wk_cl (by omega), h _ (by omega), h7 _ (by omega), nI_add]) (fun j hj => by
          unfold wk_ind
          grind))))⟩))
/-! filter over one walker at cell 9: it stays if t = 1 -/
theorem wk_f75 {post : St2 → Prop} {J : Int32 → (Nat → Int32) → (Nat → Int32) → (Nat → Int32) → (Nat → Int32) → (Nat → Int32) → (Nat → Int32) → (Nat → Int32) → (Nat → Int32) → Prop} {x1 x2 z0 : Int32} {i t : Nat} (hi : i < 64)
    (h6 : wk_on a6 (fun j => if j = 9 ∧ (t = 1 ∨ i ≤ 9) then 1 else 0)) (hz : i = 9 → (z0 = 0 ↔ t ≠ 1))
    (H : ∀ a, wk_on a (fun j => if j = 9 ∧ (t = 1 ∨ i + 1 ≤ 9) then 1 else 0) → J (nI (i + 1)) a1 a2 a3 a4 a5 a a7 a8) :
    wX_filter_75 post J x1 x2 (nI i) z0 e sz st kn a1 a2 a3 a4 a5 a6 a7 a8 := by
  refine br_c (fun h => ⟨pk_in i 64 hi, nm_e (nm_r (nI_1 i) (H _ (wk_put (m := 0) (nI_clamp (by omega)) h6 rfl (fun j hj => ?_))))⟩) (fun h => nm_r (nI_1 i) (H _ (wk_mono h6 (fun j hj => ?_))))
  · have q : i = 9 → t ≠ 1 := fun z => (hz z).mp h
    grind
  · have q : i = 9 → t = 1 := fun z => Decidable.byContradiction (fun y => h ((hz z).mpr y))
    grind
/-- the two halves of a cell's number, as the bytecode makes them -/
theorem wk_div {i : Nat} (hi : i < 64) : nI i / 8 = nI (i / 8) := pk_div (d := 8) (by omega) (by omega) (by omega)
theorem wk_rem {i : Nat} (hi : i < 64) : nI i - nI i / 8 * 8 = nI (i % 8) := pk_rem (d := 8) (by omega) (by omega) (by omega)
theorem wk_filter {post : St2 → Prop} {k n t : Nat} (hk : k < 7) (hn : k = 4 → n < 10) (ht : t = 1 ↔ (k = 4 ∧ n = 0) ∨ k = 6) (h1 : ∀ j, j < 8 → a1 j = 0) (h6 : wk_on a6 (wk_ind 9))
    (H : ∀ a, wk_on a (fun j => if j = 9 ∧ t = 1 then 1 else 0) → post (e, sz, st, kn, a1, a2, a3, a4, a5, a, a7, a8)) :
    wpX_filter post (e, sz, st, kn, a1, a2, a3, a4, a5, a6, a7, a8) (nI k) (nI n) := by
  refine pk_loop (fun f i s => wX_filter_2 post (nI k) (nI n) e sz st kn f (nI i) a1 a2 a3 a4 a5 s a7 a8) (fun i s => wk_on s (fun j => if j = 9 ∧ (t = 1 ∨ i ≤ 9) then 1 else 0)) 64 0 a6 (by omega) (wk_mono h6 (fun j hj => by unfold wk_ind; grind))
    (fun f s h => pk_le 64 64 (fun _ => H s (wk_mono h (fun j hj => by grind))) (fun z => absurd z (by omega))) ?_
  intro f i s hi h hw
  refine pk_le 64 i (fun z => absurd z (by omega)) (fun _ => ⟨by decide, nm_r (wk_div hi) ⟨by decide, nm_r (wk_rem hi) ?_⟩⟩)
  refine pk_eq k 4 (fun z => ⟨pk_in (i / 8) 8 (by omega), ?_⟩) (fun z => ?_)
  · rw [nI_clamp (by omega), h1 _ (by omega)]
    exact pk_lt 0 n (fun y => wk_f75 hi h (fun _ => ⟨fun _ => by omega, fun _ => rfl⟩) hw) (fun y => wk_f75 hi h (fun _ => ⟨fun q => absurd q (by decide), fun q => absurd (show t = 1 by omega) q⟩) hw) rfl rfl (by omega) (by have := hn z; omega)
  · have h67 : ∀ z0 z1 : Int32, (i = 9 → (z1 = z0 ↔ t = 1)) → wX_filter_67 post (wX_filter_2 post (nI k) (nI n) e sz st kn f) (nI k) (nI n) (nI i) z0 z1 e sz st kn a1 a2 a3 a4 a5 s a7 a8 := by
      intro z0 z1 hq
      exact br_c (fun y => wk_f75 hi h (fun u => ⟨fun q => absurd q (by decide), fun q => absurd ((hq u).mp y) q⟩) hw) (fun y => wk_f75 hi h (fun u => ⟨fun _ q => y ((hq u).mpr q), fun _ => rfl⟩) hw)
    refine pk_eq (i / 8) (i % 8) (fun y => ?_) (fun y => ?_)
    · exact pk_eq k 6 (fun u => h67 _ _ (fun _ => ⟨fun _ => by omega, fun _ => rfl⟩)) (fun u => h67 _ _ (fun _ => ⟨fun q => absurd q (by decide), fun q => absurd q (by omega)⟩))
    · exact pk_eq k 6 (fun u => h67 _ _ (fun v => absurd y (by omega))) (fun u => h67 _ _ (fun v => absurd y (by omega)))
/-! keepOne over one walker at cell p -/
theorem wk_k41 {post : St2 → Prop} {J2 : Int32 → (Nat → Int32) → (Nat → Int32) → (Nat → Int32) → (Nat → Int32) → (Nat → Int32) → (Nat → Int32) → (Nat → Int32) → (Nat → Int32) → Prop} {J : Int32 → Int32 → (Nat → Int32) → (Nat → Int32) → (Nat → Int32) → (Nat → Int32) → (Nat → Int32) → (Nat → Int32) → (Nat → Int32) → (Nat → Int32) → Prop} {x2 z0 : Int32} {v i p : Nat} (hv : v < 8) (hi : i < 8)
    (h6 : wk_on a6 (wk_ind p)) (hx : wk_bv (v * 8 ≤ p ∧ p < v * 8 + i) x2) (hz : wk_bv (p = v * 8 + i) z0)
    (H : ∀ y a, wk_bv (v * 8 ≤ p ∧ p < v * 8 + (i + 1)) y → wk_on a (wk_ind p) → J y (nI (i + 1)) a1 a2 a3 a4 a5 a a7 a8) :
    wX_keepOne_41 post J2 J (nI v) x2 (nI i) z0 e sz st kn a1 a2 a3 a4 a5 a6 a7 a8 := by
  refine wk_br hz (fun h => ⟨pk_in (v * 8 + i) 64 (by omega) (wk_ix v i), nm_e (nm_e (nm_r (nI_1 i) (H _ _ ?_ (wk_put (m := 0) (wk_cl (by omega)) h6 rfl (fun j hj => by unfold wk_ind; grind)))))⟩) (fun h => ⟨pk_in (v * 8 + i) 64 (by omega) (wk_ix v i), nm_e (nm_e (nm_r (nI_1 i) (H _ _ ?_ (wk_put (m := 1) (wk_cl (by omega)) h6 rfl (fun j hj => by unfold wk_ind; grind)))))⟩)
  · rcases hz with ⟨q, rfl⟩ | ⟨q, rfl⟩
    · exact absurd q h
    · rcases hx with ⟨r, rfl⟩ | ⟨r, rfl⟩
      · exact Or.inl ⟨by omega, by decide⟩
      · exact Or.inr ⟨by omega, by decide⟩
  · rcases hz with ⟨q, rfl⟩ | ⟨q, rfl⟩
    · rcases hx with ⟨r, rfl⟩ | ⟨r, rfl⟩
      · exact Or.inl ⟨by omega, by decide⟩
      · exact Or.inl ⟨by omega, by decide⟩
    · exact absurd h q
theorem wk_keepOne {post : St2 → Prop} {p : Nat} (h6 : wk_on a6 (wk_ind p)) (H : ∀ a, wk_on a (wk_ind p) → post (e, sz, st, kn, a1, a2, a3, a4, a5, a, a7, a8)) :
    wpX_keepOne post (e, sz, st, kn, a1, a2, a3, a4, a5, a6, a7, a8) := by
  refine pk_loop (fun f v s => wX_keepOne_2 post e sz st kn f (nI v) a1 a2 a3 a4 a5 s a7 a8) (fun _ s => wk_on s (wk_ind p)) 8 0 a6 (by omega) h6 (fun f s h => pk_le 8 8 (fun _ => H s h) (fun z => absurd z (by omega))) ?_
  intro f v s hv h hw
  refine pk_le 8 v (fun z => absurd z (by omega)) (fun _ => ?_)
  refine pk_loop (σ := Int32 × (Nat → Int32)) (fun g i s => wX_keepOne_12 post (wX_keepOne_2 post e sz st kn f) (nI v) e sz st kn g s.1 (nI i) a1 a2 a3 a4 a5 s.2 a7 a8) (fun i s => wk_bv (v * 8 ≤ p ∧ p < v * 8 + i) s.1 ∧ wk_on s.2 (wk_ind p)) 8 0 (0, s) (by omega) ⟨wk_bf (by omega), h⟩
    (fun g s h => pk_le 8 8 (fun _ => nm_r (nI_1 v) (hw s.2 h.2)) (fun z => absurd z (by omega))) ?_
  intro g i s hi h hn
  refine pk_le 8 i (fun z => absurd z (by omega)) (fun _ => wk_br h.1 (fun y => ⟨pk_in (v * 8 + i) 64 (by omega) (wk_ix v i), ?_⟩) (fun y => ?_))
  · rw [wk_cl (by omega), h.2 _ (by omega)]
    unfold wk_ind
    refine pk_le (if v * 8 + i = p then 1 else 0) 0 (fun q => ?_) (fun q => ?_) rfl rfl (by grind) (by omega)
    · exact wk_k41 hv hi h.2 h.1 (wk_bf (by grind)) (fun y a hy ha => hn (y, a) ⟨hy, ha⟩)
    · exact wk_k41 hv hi h.2 h.1 (wk_bt (by grind)) (fun y a hy ha => hn (y, a) ⟨hy, ha⟩)
  · exact wk_k41 hv hi h.2 h.1 (wk_bf (by omega)) (fun y a hy ha => hn (y, a) ⟨hy, ha⟩)
end
end
section
/-- what a step of kind k sends from vertex 1 along the edges of label l -/
def wk_sp (k : Nat) (qo qi : Nat → Nat) (l j : Nat) : Nat := (if k ≠ 1 ∧ j = qo (l * 8 + 1) * 8 + 1 then 1 else 0) + (if (k = 1 ∨ k = 2) ∧ j = qi (l * 8 + 1) * 8 + 1 then 1 else 0)
/-- what a step of kind k with label m makes of the walker of vertex 1 -/
def wk_mv (k m : Nat) (qo qi : Nat → Nat) (j : Nat) : Nat := (if m = 2 ∨ m = 0 then wk_sp k qo qi 0 j else 0) + (if m = 2 ∨ m = 1 then wk_sp k qo qi 1 j else 0) + (if k = 3 ∧ ¬ ((m ≠ 1 ∧ qo 1 < 8) ∨ (m ≠ 0 ∧ qo 9 < 8)) ∧ j = 9 then 1 else 0)
section
variable {e sz st kn : Int32} {a1 a2 a3 a4 a5 a6 a7 a8 : Nat → Int32} {c : Nat → Nat} {qo qi : Nat → Nat}
theorem wk_s52 {post : St2 → Prop} {x4 x5 : Int32} {v f b : Nat} (hv : v < 8) (h6 : wk_on a6 c) (h7 : wk_on a7 (wk_ind 9)) (hf : wk_bits x4 f) (hb : wk_bits x5 b)
    (H : ∀ a, wk_on a (fun j => c j + (if v = 1 ∧ j = f * 8 + 1 then 1 else 0) + (if v = 1 ∧ j = b * 8 + 1 then 1 else 0)) → post (e, sz, st, kn, a1, a2, a3, a4, a5, a, a7, a8)) :
    ∃ n, wX_spread_52 post (nI v) x4 x5 n 0 e sz st kn a1 a2 a3 a4 a5 a6 a7 a8 := by
  refine pk_loop (fun n i s => wX_spread_52 post (nI v) x4 x5 n (nI i) e sz st kn a1 a2 a3 a4 a5 s a7 a8)
    (fun i s => wk_on s (fun j => c j + (if v = 1 ∧ j = f * 8 + 1 ∧ f < i then 1 else 0) + (if v = 1 ∧ j = b * 8 + 1 ∧ b < i then 1 else 0))) 8 0 a6 (by omega) (wk_mono h6 (fun j hj => by grind))
    (fun n s h => pk_le 8 8 (fun _ => H s (wk_mono h (fun j hj => by grind))) (fun z => absurd z (by omega))) ?_
  intro n i s hi h hn
  have key : ∀ s, wk_on s (fun j => c j + (if v = 1 ∧ j = f * 8 + 1 ∧ f < i + 1 then 1 else 0) + (if v = 1 ∧ j = b * 8 + 1 ∧ b < i then 1 else 0)) → wX_spread_76 post (wX_spread_52 post (nI v) x4 x5 n) (nI v) x4 x5 (nI i) e sz st kn a1 a2 a3 a4 a5 s a7 a8 := by
    intro s hs
    exact ek_if (hb i hi) (fun z => nm_r (nI_1 i) (hn s (wk_mono hs (fun j hj => by grind)))) (fun z => wk_carry hv hi hs h7 (fun a ha => nm_r (nI_1 i) (hn a (wk_mono ha (fun j hj => by grind)))))
  exact pk_le 8 i (fun z => absurd z (by omega)) (fun _ => ek_if (hf i hi) (fun z => key s (wk_mono h (fun j hj => by grind))) (fun z => wk_carry hv hi h h7 (fun a ha => key a (wk_mono ha (fun j hj => by grind)))))
theorem wk_s20 {post : St2 → Prop} {z0 : Int32} {k v l f : Nat} (hk : k < 4) (hv : v < 8) (hl : l < 2) (h6 : wk_on a6 c) (h7 : wk_on a7 (wk_ind 9)) (hf : wk_bits z0 f) (hi : ∀ i, i < 16 → wk_bits (a3 i) (qi i))
    (H : ∀ a, wk_on a (fun j => c j + (if v = 1 ∧ j = f * 8 + 1 then 1 else 0) + (if v = 1 ∧ (k = 1 ∨ k = 2) ∧ j = qi (l * 8 + v) * 8 + 1 then 1 else 0)) → post (e, sz, st, kn, a1, a2, a3, a4, a5, a, a7, a8)) :
    wX_spread_20 post (nI k) (nI v) (nI l) z0 e sz st kn a1 a2 a3 a4 a5 a6 a7 a8 := by
  have h32 : (k = 1 ∨ k = 2) → wX_spread_32 post (nI v) (nI l) z0 e sz st kn a1 a2 a3 a4 a5 a6 a7 a8 := by
    intro hq
    refine ⟨pk_in (l * 8 + v) 16 (by omega) (wk_ix l v), nm_r (by rw [wk_cl (by omega)]) (wk_s52 hv h6 h7 hf (hi (l * 8 + v) (by omega)) (fun a ha => H a (wk_mono ha (fun j hj => by grind))))⟩
  exact pk_eq k 1 (fun z => h32 (Or.inl z)) (fun z => pk_eq k 2 (fun y => h32 (Or.inr y)) (fun y => wk_s52 hv h6 h7 hf wk_b0 (fun a ha => H a (wk_mono ha (fun j hj => by grind)))))
theorem wk_spread {post : St2 → Prop} {k v l : Nat} (hk : k < 4) (hv : v < 8) (hl : l < 2) (h6 : wk_on a6 c) (h7 : wk_on a7 (wk_ind 9)) (ho : ∀ i, i < 16 → wk_bits (a2 i) (qo i)) (hi : ∀ i, i < 16 → wk_bits (a3 i) (qi i))
    (H : ∀ a, wk_on a (fun j => c j + if v = 1 then wk_sp k qo qi l j else 0) → post (e, sz, st, kn, a1, a2, a3, a4, a5, a, a7, a8)) :
    wpX_spread post (e, sz, st, kn, a1, a2, a3, a4, a5, a6, a7, a8) (nI k) (nI v) (nI l) := by
  refine pk_eq k 1 (fun z => wk_s20 hk hv hl h6 h7 wk_b0 hi (fun a ha => H a (wk_mono ha (fun j hj => ?_)))) (fun z => ⟨pk_in (l * 8 + v) 16 (by omega) (wk_ix l v), ?_⟩)
  · unfold wk_sp
    grind
  · rw [wk_cl (by omega)]
    refine wk_s20 hk hv hl h6 h7 (ho _ (by omega)) hi (fun a ha => H a (wk_mono ha (fun j hj => ?_)))
    unfold wk_sp
    grind
theorem wk_moves {post : Int32 → Prop} {v m : Nat} (hv : v < 8) (hm : m ≤ 2) (hz : ∀ i, i < 16 → (a2 i = 0 ↔ ¬ qo i < 8))
    (H : ∀ r, wk_bv ((m ≠ 1 ∧ qo v < 8) ∨ (m ≠ 0 ∧ qo (8 + v) < 8)) r → post r) : wpX_moves post (e, sz, st, kn, a1, a2, a3, a4, a5, a6, a7, a8) (nI v) (nI m) := by
  have h18 : ¬ (m ≠ 1 ∧ qo v < 8) → wX_moves_18 post (nI v) (nI m) e sz st kn a1 a2 a3 a4 a5 a6 a7 a8 := by
    intro h
    refine br_t rfl (pk_eq m 0 (fun z => H 0 (wk_bf (by omega))) (fun z => ⟨pk_in (8 + v) 16 (by omega) (wk_8 v), ?_⟩))
    rw [wk_8, nI_clamp (by omega)]
    exact ek_if (hz (8 + v) (by omega)) (fun y => H 0 (wk_bf (by omega))) (fun y => H 1 (wk_bt (by omega)))
  refine pk_eq m 1 (fun z => h18 (by omega)) (fun z => ⟨pk_in v 16 (by omega), ?_⟩)
  rw [nI_clamp (by omega)]
  exact ek_if (hz v (by omega)) (fun y => h18 (by omega)) (fun y => br_f (by decide) (H 1 (wk_bt (by omega))))
theorem wk_m44 {post : St2 → Prop} {J : Int32 → Int32 → Int32 → Int32 → Int32 → (Nat → Int32) → (Nat → Int32) → (Nat → Int32) → (Nat → Int32) → (Nat → Int32) → (Nat → Int32) → (Nat → Int32) → (Nat → Int32) → Prop} {k m v : Nat} (hk : k < 4) (hm : m ≤ 2) (hv : v < 8) (h6 : wk_on a6 c) (h7 : wk_on a7 (wk_ind 9))
    (ho : ∀ i, i < 16 → wk_bits (a2 i) (qo i)) (hz : ∀ i, i < 16 → (a2 i = 0 ↔ ¬ qo i < 8)) (hi : ∀ i, i < 16 → wk_bits (a3 i) (qi i))
    (H : ∀ a, wk_on a (fun j => c j + if v = 1 then wk_mv k m qo qi j else 0) → J (nI (v + 1)) e sz st kn a1 a2 a3 a4 a5 a a7 a8) :
    ∃ n, wX_move_44 post J (nI k) (nI m) (nI v) n 0 e sz st kn a1 a2 a3 a4 a5 a6 a7 a8 := by
  refine pk_loop (fun n i s => wX_move_44 post J (nI k) (nI m) (nI v) n (nI i) e sz st kn a1 a2 a3 a4 a5 s a7 a8)
    (fun i s => wk_on s (fun j => c j + if v = 1 then (if (m = 2 ∨ m = 0) ∧ 0 < i then wk_sp k qo qi 0 j else 0) + (if (m = 2 ∨ m = 1) ∧ 1 < i then wk_sp k qo qi 1 j else 0) else 0)) 2 0 a6 (by omega) (wk_mono h6 (fun j hj => by grind)) ?_ ?_
  · intro n s h
    refine pk_le 2 2 (fun _ => pk_eq k 3 (fun z => wk_moves hv hm hz (fun r hr => wk_br hr (fun y => wk_carry hv hv h h7 (fun a ha => nm_r (nI_1 v) (H a (wk_mono ha (fun j hj => ?_))))) (fun y => nm_r (nI_1 v) (H s (wk_mono h (fun j hj => ?_)))))) (fun z => nm_r (nI_1 v) (H s (wk_mono h (fun j hj => ?_))))) (fun z => absurd z (by omega))
    · unfold wk_mv
      grind
    · unfold wk_mv
      grind
    · unfold wk_mv
      grind
  · intro n i s hi' h hn
    have h61 : (m = 2 ∨ m = i) → wX_move_61 post J (wX_move_44 post J (nI k) (nI m) (nI v) n) (nI k) (nI m) (nI v) (nI i) e sz st kn a1 a2 a3 a4 a5 s a7 a8 := by
      intro hq
      refine wk_spread hk hv hi' h h7 ho hi (fun a ha => nm_r (nI_1 i) (hn a (wk_mono ha (fun j hj => ?_))))
      have e2 : i = 0 ∨ i = 1 := by omega
      rcases e2 with rfl | rfl
      · grind
      · grind
    refine pk_le 2 i (fun z => absurd z (by omega)) (fun _ => pk_eq m 2 (fun z => h61 (Or.inl z)) (fun z => pk_eq m i (fun y => h61 (Or.inr y)) (fun y => nm_r (nI_1 i) (hn s (wk_mono h (fun j hj => ?_))))))
    have e2 : i = 0 ∨ i = 1 := by omega
    rcases e2 with rfl | rfl
    · grind
    · grind
theorem wk_move {post : St2 → Prop} {k m : Nat} (hk : k < 4) (hm : m ≤ 2) (h6 : wk_on a6 (wk_ind 9))
    (ho : ∀ i, i < 16 → wk_bits (a2 i) (qo i)) (hz : ∀ i, i < 16 → (a2 i = 0 ↔ ¬ qo i < 8)) (hi : ∀ i, i < 16 → wk_bits (a3 i) (qi i))
    (H : ∀ a b, wk_on a (wk_mv k m qo qi) → post (e, sz, st, kn, a1, a2, a3, a4, a5, a, b, a8)) :
    wpX_move post (e, sz, st, kn, a1, a2, a3, a4, a5, a6, a7, a8) (nI k) (nI m) := by
  refine pk_loop (σ := (Nat → Int32) × (Nat → Int32)) (fun n i s => wX_move_2 post (nI k) (nI m) e sz st kn n (nI i) a1 a2 a3 a4 a5 s.1 s.2 a8)
    (fun i s => wk_on s.1 (fun j => if j < i then 0 else wk_ind 9 j) ∧ ∀ j, j < i → s.2 j = nI (wk_ind 9 j)) 64 0 (a6, a7) (by omega) ⟨wk_mono h6 (fun j hj => by grind), fun j hj => absurd hj (by omega)⟩ ?_ ?_
  · intro n s h
    refine pk_le 64 64 (fun _ => ?_) (fun z => absurd z (by omega))
    refine pk_loop (fun n i t => wX_move_35 post (nI k) (nI m) n (nI i) e sz st kn a1 a2 a3 a4 a5 t s.2 a8) (fun i t => wk_on t (fun j => if 1 < i then wk_mv k m qo qi j else 0)) 8 0 s.1 (by omega) (wk_mono h.1 (fun j hj => by grind)) ?_ ?_
    · intro f t ht
      exact pk_le 8 8 (fun _ => H t s.2 (wk_mono ht (fun j hj => by grind))) (fun z => absurd z (by omega))
    · intro f v t hv ht hn
      refine pk_le 8 v (fun z => absurd z (by omega)) (fun _ => wk_m44 hk hm hv ht h.2 ho hz hi (fun a ha => hn a (wk_mono ha (fun j hj => by grind))))
  · intro n i s hi' h hn
    have F : ∀ j, j < i + 1 → upd s.2 (nI i).toNatClampNeg (s.1 (nI i).toNatClampNeg) j = nI (wk_ind 9 j) := by
      intro j hj
      rw [nI_clamp (by omega)]
      by_cases z : j = i
      · rw [z, pk_us, h.1 i hi']
        exact congrArg nI (if_neg (by omega))
      · rw [pk_un z]
        exact h.2 j (by omega)
    refine pk_le 64 i (fun z => absurd z (by omega)) (fun _ => ⟨pk_in i 64 hi', pk_in i 64 hi', nm_e ⟨pk_in i 64 hi', nm_e (nm_r (nI_1 i) (hn (_, _) ⟨wk_put (m := 0) (nI_clamp (by omega)) h.1 rfl (fun j hj => ?_), F⟩))⟩⟩)
    grind
end
end
section
/-- the edge's cells, as pictures of the two arrays of bits -/
def wk_qo (a b l k : Nat) : Nat := if k = l * 8 + a then b else 8
def wk_qi (a b l k : Nat) : Nat := if k = l * 8 + b then a else 8
/-- the cell of the walker behind a step of kind k with n (64: it is dead); the edge a, b, l (8, 8, 2: there is none) -/
def wk_P (k n a b l : Nat) : Nat :=
  if k = 0 then (if a = 1 ∧ (n = 2 ∨ n = l) then b * 8 + 1 else 64)
  else if k = 1 then (if b = 1 ∧ (n = 2 ∨ n = l) then a * 8 + 1 else 64)
  else if k = 2 then (if a = 1 ∧ (n = 2 ∨ n = l) then b * 8 + 1 else if b = 1 ∧ (n = 2 ∨ n = l) then a * 8 + 1 else 64)
  else if k = 3 then (if a = 1 ∧ (n = 2 ∨ n = l) then b * 8 + 1 else 9)
  else if k = 4 then (if n = 0 then 9 else 64)
  else if k = 5 then 64 else 9
/-- an edge, or none -/
def wk_ab (a b l : Nat) : Prop := (a < 8 ∧ b < 8 ∧ a ≠ b ∧ l < 2) ∨ (a = 8 ∧ b = 8 ∧ l = 2)
theorem wk_mvP {k n a b l j : Nat} (hk : k < 4) (hn : n ≤ 2) (h : wk_ab a b l) (hj : j < 64) : wk_mv k n (wk_qo a b l) (wk_qi a b l) j = wk_ind (wk_P k n a b l) j := by
  have ek : k = 0 ∨ k = 1 ∨ k = 2 ∨ k = 3 := by omega
  have en : n = 0 ∨ n = 1 ∨ n = 2 := by omega
  unfold wk_mv wk_sp wk_ind wk_P wk_qo wk_qi
  rcases h with ⟨ha, hb, hab, hl⟩ | ⟨rfl, rfl, rfl⟩
  · have el : l = 0 ∨ l = 1 := by omega
    rcases ek with rfl | rfl | rfl | rfl <;> rcases en with rfl | rfl | rfl <;> rcases el with rfl | rfl <;> grind
  · rcases ek with rfl | rfl | rfl | rfl <;> rcases en with rfl | rfl | rfl <;> grind
section
variable {e sz st kn : Int32} {a1 a2 a3 a4 a5 a6 a7 a8 : Nat → Int32}
theorem wk_w51 {post : St2 → Prop} {J : Int32 → (Nat → Int32) → (Nat → Int32) → (Nat → Int32) → (Nat → Int32) → (Nat → Int32) → (Nat → Int32) → (Nat → Int32) → (Nat → Int32) → Prop} {z0 : Int32} {i : Nat} (hi : i < 64)
    (hz : wk_bv (i = 9) z0) (h : ∀ j, j < i → a6 j = nI (wk_ind 9 j)) (H : ∀ a, (∀ j, j < i + 1 → a j = nI (wk_ind 9 j)) → J (nI (i + 1)) a1 a2 a3 a4 a5 a a7 a8) :
    wX_walk_51 post J (nI i) z0 e sz st kn a1 a2 a3 a4 a5 a6 a7 a8 := by
  have put : ∀ x : Int32, x = nI (wk_ind 9 i) → ∀ j, j < i + 1 → upd a6 (nI i).toNatClampNeg x j = nI (wk_ind 9 j) := by
    intro x hx j hj
    rw [nI_clamp (by omega)]
    by_cases z : j = i
    · rw [z, pk_us, hx]
    · rw [pk_un z]
      exact h j (by omega)
  refine wk_br hz (fun z => ⟨pk_in i 64 hi, nm_e (nm_r (nI_1 i) (H _ (put _ ?_)))⟩) (fun z => ⟨pk_in i 64 hi, nm_e (nm_r (nI_1 i) (H _ (put _ ?_)))⟩)
  · unfold wk_ind
    rw [if_neg z]
    rfl
  · unfold wk_ind
    rw [if_pos z]
    rfl
theorem wk_w15 {post : St2 → Prop} (H : ∀ a, wk_on a (wk_ind 9) → ∃ n, wX_walk_85 post n 0 e sz 2 kn a1 a2 a3 a4 a5 a a7 (upd a8 0 1)) :
    ∃ n, wX_walk_15 post e sz 2 kn n 0 a1 a2 a3 a4 a5 a6 a7 a8 := by
  refine pk_loop (fun n i s => wX_walk_15 post e sz 2 kn n (nI i) a1 a2 a3 a4 a5 s a7 a8) (fun i s => ∀ j, j < i → s j = nI (wk_ind 9 j)) 64 0 a6 (by omega) (fun j hj => absurd hj (by omega))
    (fun n s h => pk_le 64 64 (fun _ => wk_total (p := 9) h (nm_r (by rfl) (H s h))) (fun z => absurd z (by omega))) ?_
  intro n i s hi h hn
  refine pk_le 64 i (fun z => absurd z (by omega)) (fun _ => ⟨by decide, by decide, ?_⟩)
  rw [wk_rem hi, wk_div hi]
  exact pk_eq (i / 8) (i % 8)
    (fun y => ⟨by decide, ek_if (wk_b2 (i % 8) (by omega)) (fun q => wk_w51 hi (wk_bf (by omega)) h hn) (fun q => wk_w51 hi (wk_bt (by omega)) h hn)⟩)
    (fun y => wk_w51 hi (wk_bf (by omega)) h hn)
theorem wk_w156 {post : St2 → Prop} {p : Nat} (h6 : wk_on a6 (wk_ind p)) (H : post (e, 1, st, kn, a1, a2, a3, a4, a5, a6, a7, upd a8 1 (nI (if p < 64 then 1 else 0)))) :
    wX_walk_156 post (wX_walk_85 post 1) 0 e 1 st kn a1 a2 a3 a4 a5 a6 a7 a8 :=
  wk_total h6 ⟨pk_in 1 7 (by omega), nm_r (by rfl) (nm_r (by rfl) (pk_le 1 1 (fun _ => H) (fun z => absurd z (by omega))))⟩
theorem wk_w85 {post : St2 → Prop} {k n a b l : Nat} (hk : k < 8) (hn3 : k ≤ 3 → n ≤ 2) (hn4 : k = 4 → n < 10) (h4 : a4 0 = nI k) (h5 : a5 0 = nI n) (hab : wk_ab a b l) (h1 : ∀ j, j < 8 → a1 j = 0) (h6 : wk_on a6 (wk_ind 9))
    (ho : ∀ i, i < 16 → wk_bits (a2 i) (wk_qo a b l i)) (hz : ∀ i, i < 16 → (a2 i = 0 ↔ ¬ wk_qo a b l i < 8)) (hi : ∀ i, i < 16 → wk_bits (a3 i) (wk_qi a b l i))
    (H : ∀ a6' a7', wk_on a6' (wk_ind (wk_P k n a b l)) → post (e, 1, st, kn, a1, a2, a3, a4, a5, a6', a7', upd a8 1 (nI (if wk_P k n a b l < 64 then 1 else 0)))) :
    wX_walk_85 post 2 0 e 1 st kn a1 a2 a3 a4 a5 a6 a7 a8 := by
  refine pk_le 1 0 (fun z => absurd z (by omega)) (fun _ => ⟨pk_in 0 6 (by omega), ?_⟩)
  rw [sb_cl0, h4, h5]
  refine pk_lt 3 k (fun z => ⟨pk_in 0 6 (by omega), pk_eq k 7 (fun y => ?_) (fun y => ⟨pk_in 0 6 (by omega), pk_in 0 6 (by omega), ?_⟩)⟩) (fun z => ⟨pk_in 0 6 (by omega), pk_in 0 6 (by omega), ?_⟩)
  · have e9 : wk_P k n a b l = 9 := by
      unfold wk_P
      grind
    rw [e9] at H
    exact wk_keepOne h6 (fun s hs => wk_w156 hs (H s a7 hs))
  · refine wk_filter (t := if wk_P k n a b l = 9 then 1 else 0) (by omega) hn4 (by unfold wk_P; grind) h1 h6 (fun s hs => ?_)
    have hs' : wk_on s (wk_ind (wk_P k n a b l)) := wk_mono hs (fun j hj => by
      have e9 : wk_P k n a b l = 9 ∨ wk_P k n a b l = 64 := by
        unfold wk_P
        grind
      unfold wk_ind
      grind)
    exact wk_w156 hs' (H s a7 hs')
  · refine wk_move (by omega) (hn3 z) h6 ho hz hi (fun s t hs => ?_)
    have hs' : wk_on s (wk_ind (wk_P k n a b l)) := wk_mono hs (fun j hj => wk_mvP (by omega) (hn3 z) hab hj)
    exact wk_w156 hs' (H s t hs')
/-- the walk, its results not known yet: z steps (one or none) -/
theorem wk_walk {post : St2 → Prop} {z k n a b l : Nat} (hz1 : z ≤ 1) (hk : z = 1 → k < 8 ∧ (k ≤ 3 → n ≤ 2) ∧ (k = 4 → n < 10) ∧ a4 0 = nI k ∧ a5 0 = nI n) (hab : wk_ab a b l) (h1 : ∀ j, j < 8 → a1 j = 0)
    (ho : ∀ i, i < 16 → wk_bits (a2 i) (wk_qo a b l i)) (hz : ∀ i, i < 16 → (a2 i = 0 ↔ ¬ wk_qo a b l i < 8)) (hi : ∀ i, i < 16 → wk_bits (a3 i) (wk_qi a b l i))
    (H : ∀ p a6' a7' a8', (z = 0 → p = 9) → (z = 1 → p = wk_P k n a b l) → wk_on a6' (wk_ind p) → a8' 0 = 1 → a8' z = nI (if p < 64 then 1 else 0) → post (e, nI z, 2, 1, a1, a2, a3, a4, a5, a6', a7', a8')) :
    wpX_walk post (e, nI z, 2, 0, a1, a2, a3, a4, a5, a6, a7, a8) := by
  refine br_t rfl (wk_w15 (fun s hs => ?_))
  have ez : z = 0 ∨ z = 1 := by omega
  rcases ez with rfl | rfl
  · exact ⟨1, pk_le 0 0 (fun _ => H 9 s a7 _ (fun _ => rfl) (fun y => absurd y (by omega)) hs pk_us (by rw [pk_us]; rfl)) (fun y => absurd y (by omega))⟩
  · obtain ⟨k1, k2, k3, k4, k5⟩ := hk rfl
    exact ⟨2, wk_w85 k1 k2 k3 k4 k5 hab h1 hs ho hz hi (fun s' t hs' => H _ s' t _ (fun y => absurd y (by omega)) (fun _ => rfl) hs' (by rw [pk_un (by omega), pk_us]) pk_us)⟩
/-- walkers: the walk is made here -/
theorem wk_walkers {post : Int32 → St2 → Prop} {z k n a b l : Nat} (hz1 : z ≤ 1) (hk : z = 1 → k < 8 ∧ (k ≤ 3 → n ≤ 2) ∧ (k = 4 → n < 10) ∧ a4 0 = nI k ∧ a5 0 = nI n) (hab : wk_ab a b l) (h1 : ∀ j, j < 8 → a1 j = 0)
    (ho : ∀ i, i < 16 → wk_bits (a2 i) (wk_qo a b l i)) (hz : ∀ i, i < 16 → (a2 i = 0 ↔ ¬ wk_qo a b l i < 8)) (hi : ∀ i, i < 16 → wk_bits (a3 i) (wk_qi a b l i))
    (H : ∀ p a6' a7' a8', (z = 0 → p = 9) → (z = 1 → p = wk_P k n a b l) → wk_on a6' (wk_ind p) → a8' 0 = 1 → a8' z = nI (if p < 64 then 1 else 0) → post (nI (if p < 64 then 1 else 0)) (e, nI z, 2, 1, a1, a2, a3, a4, a5, a6', a7', a8')) :
    wpX_walkers post (e, nI z, 2, 0, a1, a2, a3, a4, a5, a6, a7, a8) := by
  refine wk_walk hz1 hk hab h1 ho hz hi (fun p a6' a7' a8' q1 q2 q3 q4 q5 => ⟨pk_in z 7 (by omega), ?_⟩)
  rw [nI_clamp (by omega), q5]
  exact H p a6' a7' a8' q1 q2 q3 q4 q5
/-- diesAfter, the results known -/
theorem wk_dies {post : Int32 → St2 → Prop} {z p : Nat} (hz1 : z ≤ 1) (hp : z = 0 → p = 9) (h0 : a8 0 = 1) (h8 : a8 z = nI (if p < 64 then 1 else 0))
    (H : ∀ r, (p < 64 ∧ r = -1) ∨ (¬ p < 64 ∧ r = 1) → post r (e, nI z, st, 1, a1, a2, a3, a4, a5, a6, a7, a8)) :
    wpX_diesAfter post (e, nI z, st, 1, a1, a2, a3, a4, a5, a6, a7, a8) := by
  refine br_f (by decide) ⟨3, ?_⟩
  refine pk_lt z 0 (fun y => absurd y (by omega)) (fun _ => ⟨pk_in 0 7 (by omega), br_f ?_ (nm_r (show (0 : Int32) + 1 = nI 1 by rfl) ?_)⟩)
  · rw [sb_cl0, h0]
    decide
  · refine pk_lt z 1 (fun y => H _ (Or.inl ⟨by omega, rfl⟩)) (fun y => ⟨pk_in 1 7 (by omega), ?_⟩)
    have ez : z = 1 := by omega
    subst ez
    rw [nI_clamp (by omega), h8]
    refine pk_eq (if p < 64 then 1 else 0) 0 (fun y => H _ (Or.inr ⟨by grind, rfl⟩)) (fun y => nm_r (nI_1 1) (pk_lt 1 2 (fun _ => H _ (Or.inl ⟨by grind, rfl⟩)) (fun y => absurd y (by omega)))) rfl rfl (by grind) (by omega)
end
end
section
/-! what the law asks of its five ints -/
def wk_V (x : Int32) : Prop := ¬ x < 0 ∧ ¬ 7 < x
def wk_J (x0 x1 x2 : Int32) : Prop := wk_V x0 ∧ wk_V x1 ∧ ¬ x0 = x1 ∧ (x2 = 0 ∨ x2 = 1)
def wk_G (x3 x4 : Int32) : Prop := wk_V x3 ∧ (3 < x3 ∨ (¬ x4 < 0 ∧ ¬ 2 < x4)) ∧ (¬ x3 = 4 ∨ (¬ x4 < 0 ∧ ¬ 9 < x4))
theorem wk_87 (x : Int32) : 8 ≤ x ↔ 7 < x := by
  rw [Int32.le_iff_toInt_le, Int32.lt_iff_toInt_lt, show (8 : Int32).toInt = 8 by decide, show (7 : Int32).toInt = 7 by decide]
  omega
theorem wk_Vn {x : Int32} (h : wk_V x) : ∃ j : Nat, j < 8 ∧ x = nI j := by
  rcases pk_ix x (n := 8) (by omega) with z | z | z
  · exact absurd z h.1
  · exact absurd ((wk_87 x).mp z) h.2
  · exact z
theorem wk_isV {post : Int32 → Prop} {x : Int32} (H : ∀ r, wk_bv (wk_V x) r → post r) : wpX_isVertex post () x :=
  br_c (fun h => H 0 (wk_bf (fun z => z.1 h))) (fun h => ek_if (wk_87 x) (fun h2 => H 0 (wk_bf (fun z => z.2 h2))) (fun h2 => H 1 (wk_bt ⟨h, h2⟩)))
theorem wk_isE {post : Int32 → Prop} {x0 x1 x2 : Int32} (H : ∀ r, wk_bv (wk_J x0 x1 x2) r → post r) : wpX_isEdge post () x0 x1 x2 :=
  wk_isV (fun r hr => wk_br hr (fun h => H 0 (wk_bf (fun z => h z.1))) (fun h => wk_isV (fun r' hr' => wk_br hr' (fun h2 => H 0 (wk_bf (fun z => h2 z.2.1))) (fun h2 =>
    br_c (fun h3 => H 0 (wk_bf (fun z => z.2.2.1 h3))) (fun h3 => br_c (fun h4 => H 1 (wk_bt ⟨h, h2, h3, Or.inl h4⟩)) (fun h4 => br_c (fun h5 => H 1 (wk_bt ⟨h, h2, h3, Or.inr h5⟩)) (fun h5 => H 0 (wk_bf (fun z => z.2.2.2.elim h4 h5)))))))))
/-- the edge behind join(x0, x1, x2) on an empty graph -/
def wk_E (x0 x1 x2 : Int32) (a b l : Nat) : Prop := (wk_J x0 x1 x2 ∧ a < 8 ∧ b < 8 ∧ a ≠ b ∧ l < 2 ∧ x0 = nI a ∧ x1 = nI b ∧ x2 = nI l) ∨ (¬ wk_J x0 x1 x2 ∧ a = 8 ∧ b = 8 ∧ l = 2)
theorem wk_Eab {x0 x1 x2 : Int32} {a b l : Nat} (h : wk_E x0 x1 x2 a b l) : wk_ab a b l := by
  unfold wk_ab
  rcases h with ⟨_, h1, h2, h3, h4, _⟩ | ⟨_, h1, h2, h3⟩
  · exact Or.inl ⟨h1, h2, h3, h4⟩
  · exact Or.inr ⟨h1, h2, h3⟩
theorem wk_Jn {x0 x1 x2 : Int32} (h : wk_J x0 x1 x2) : ∃ a b l : Nat, a < 8 ∧ b < 8 ∧ a ≠ b ∧ l < 2 ∧ x0 = nI a ∧ x1 = nI b ∧ x2 = nI l := by
  obtain ⟨h0, h1, h2, h3⟩ := h
  obtain ⟨a, ha, rfl⟩ := wk_Vn h0
  obtain ⟨b, hb, rfl⟩ := wk_Vn h1
  have hab : a ≠ b := fun z => h2 (by rw [z])
  rcases h3 with rfl | rfl
  · exact ⟨a, b, 0, ha, hb, hab, by omega, rfl, rfl, rfl⟩
  · exact ⟨a, b, 1, ha, hb, hab, by omega, rfl, rfl, rfl⟩
theorem wk_b08 {q : Nat} (h : q = 8) : wk_bits 0 q := by
  rw [h]
  exact wk_b0
theorem wk_join {post : Int32 → St2 → Prop} {x0 x1 x2 : Int32}
    (H : ∀ r ec a2 a3 a b l, wk_bv (wk_J x0 x1 x2) r → wk_E x0 x1 x2 a b l → (∀ i, i < 16 → wk_bits (a2 i) (wk_qo a b l i)) → (∀ i, i < 16 → (a2 i = 0 ↔ ¬ wk_qo a b l i < 8)) → (∀ i, i < 16 → wk_bits (a3 i) (wk_qi a b l i)) →
      post r (ec, 0, 0, 0, (fun _ => 0), a2, a3, (fun _ => 0), (fun _ => 0), (fun _ => 0), (fun _ => 0), (fun _ => 0))) :
    wpX_join post (0, 0, 0, 0, (fun _ => 0), (fun _ => 0), (fun _ => 0), (fun _ => 0), (fun _ => 0), (fun _ => 0), (fun _ => 0), (fun _ => 0)) x0 x1 x2 := by
  refine wk_isE (fun r hr => wk_br hr (fun h => ?_) (fun h => ?_))
  · refine H 0 0 _ _ 8 8 2 (wk_bf h) (Or.inr ⟨h, rfl, rfl, rfl⟩) (fun i hi => wk_b08 ?_) (fun i hi => ⟨fun _ => ?_, fun _ => rfl⟩) (fun i hi => wk_b08 ?_)
    · unfold wk_qo
      grind
    · unfold wk_qo
      grind
    · unfold wk_qi
      grind
  · obtain ⟨a, b, l, ha, hb, hab, hl, rfl, rfl, rfl⟩ := wk_Jn h
    refine ⟨pk_in (l * 8 + a) 16 (by omega) (wk_ix l a), br_t ?_ (br_t rfl (br_t (by decide) ?_))⟩
    · exact (wk_b0 b hb).mpr (by omega)
    · refine nm_r (wk_ix l a) (nm_r (wk_ix l b) ⟨pk_in (l * 8 + a) 16 (by omega), pk_in (l * 8 + a) 16 (by omega), nm_e ⟨pk_in (l * 8 + b) 16 (by omega), pk_in (l * 8 + b) 16 (by omega), nm_e (nm_e ?_)⟩⟩)
      rw [nI_clamp (by omega), nI_clamp (by omega)]
      refine H 1 _ _ _ a b l (wk_bt h) (Or.inl ⟨h, ha, hb, hab, hl, rfl, rfl, rfl⟩) (fun i hi => ?_) (fun i hi => ?_) (fun i hi => ?_)
      · unfold wk_qo
        by_cases z : i = l * 8 + a
        · rw [if_pos z, z, pk_us]
          exact (wk_bsh b hb).1
        · rw [if_neg z, pk_un z]
          exact wk_b0
      · unfold wk_qo
        by_cases z : i = l * 8 + a
        · rw [if_pos z, z, pk_us]
          exact ⟨fun y => absurd y (wk_bsh b hb).2, fun y => absurd hb y⟩
        · rw [if_neg z, pk_un z]
          exact ⟨fun _ => by omega, fun _ => rfl⟩
      · unfold wk_qi
        by_cases z : i = l * 8 + b
        · rw [if_pos z, z, pk_us]
          exact (wk_bsh a ha).1
        · rw [if_neg z, pk_un z]
          exact wk_b0
theorem wk_nar : ∀ m, m < 10 → (nI m).toInt8.toInt32 = nI m := by decide +kernel
section
variable {ec : Int32} {a2 a3 : Nat → Int32} {x3 x4 : Int32}
theorem wk_a100 {post : Int32 → St2 → Prop} {x : Int32} {k m : Nat} (hm : m < 10) (hx : x = nI m)
    (H : post 1 (ec, 1, 0, 0, (fun _ => 0), a2, a3, upd (fun _ => 0) 0 (nI k), upd (fun _ => 0) 0 (nI m), (fun _ => 0), (fun _ => 0), (fun _ => 0))) :
    wX_add_100 post x 0 ec 0 0 0 (fun _ => 0) a2 a3 (upd (fun _ => 0) 0 (nI k)) (fun _ => 0) (fun _ => 0) (fun _ => 0) (fun _ => 0) :=
  ⟨pk_in 0 6 (by omega), nm_r (by rw [hx, wk_nar m hm]; rfl) (nm_r (by rfl) H)⟩
theorem wk_a55 {post : Int32 → St2 → Prop} {z0 : Int32} {k m : Nat} (hk : k < 8) (hz : wk_bv (k ≤ 3) z0) (hm : m < 10) (h1 : k ≤ 4 → x4 = nI m) (h2 : 4 < k → m = 0)
    (H : post 1 (ec, 1, 0, 0, (fun _ => 0), a2, a3, upd (fun _ => 0) 0 (nI k), upd (fun _ => 0) 0 (nI m), (fun _ => 0), (fun _ => 0), (fun _ => 0))) :
    wX_add_55 post (nI k) x4 z0 ec 0 0 0 (fun _ => 0) a2 a3 (fun _ => 0) (fun _ => 0) (fun _ => 0) (fun _ => 0) (fun _ => 0) := by
  refine br_t (by decide) ⟨pk_in 0 6 (by omega), nm_r (by rw [wk_nar k (by omega)]) (wk_br hz (fun z => pk_eq k 4 (fun y => ?_) (fun y => ?_)) (fun z => ?_))⟩
  · exact wk_a100 hm (h1 (by omega)) H
  · exact wk_a100 hm (by rw [h2 (by omega)]; rfl) H
  · exact wk_a100 hm (h1 (by omega)) H
/-- the number of a step's argument -/
theorem wk_upto {x : Int32} {n : Nat} {M : Int32} (hM : M = nI n) (hn : n < 2 ^ 30) (h0 : ¬ x < 0) (h : ¬ M < x) : ∃ j : Nat, j ≤ n ∧ x = nI j := by
  rcases pk_ix x (n := n + 1) (by omega) with z | z | ⟨j, hj, z⟩
  · exact absurd z h0
  · refine absurd ?_ h
    rw [hM]
    rw [Int32.le_iff_toInt_le, nI_toInt (by omega)] at z
    rw [Int32.lt_iff_toInt_lt, nI_toInt (by omega)]
    omega
  · exact ⟨j, by omega, z⟩
theorem wk_add {post : Int32 → St2 → Prop}
    (H0 : ¬ wk_G x3 x4 → post (-1) (ec, 0, 0, 0, (fun _ => 0), a2, a3, (fun _ => 0), (fun _ => 0), (fun _ => 0), (fun _ => 0), (fun _ => 0)))
    (H1 : ∀ k m : Nat, wk_G x3 x4 → k < 8 → x3 = nI k → (k ≤ 3 → m ≤ 2) → m < 10 → (k ≤ 4 → x4 = nI m) → (4 < k → m = 0) → post 1 (ec, 1, 0, 0, (fun _ => 0), a2, a3, upd (fun _ => 0) 0 (nI k), upd (fun _ => 0) 0 (nI m), (fun _ => 0), (fun _ => 0), (fun _ => 0))) :
    wpX_add post (ec, 0, 0, 0, (fun _ => 0), a2, a3, (fun _ => 0), (fun _ => 0), (fun _ => 0), (fun _ => 0), (fun _ => 0)) x3 x4 := by
  have h14 : ∀ z0 : Int32, wk_bv (¬ x3 < 0 ∧ ¬ 3 < x3) z0 → wX_add_14 post x3 x4 z0 ec 0 0 0 (fun _ => 0) a2 a3 (fun _ => 0) (fun _ => 0) (fun _ => 0) (fun _ => 0) (fun _ => 0) := by
    intro z0 hz
    refine br_c (fun h => H0 (fun z => z.1.1 h)) (fun h => br_c (fun h' => H0 (fun z => z.1.2 h')) (fun h' => ?_))
    obtain ⟨k, hk, rfl⟩ := wk_Vn ⟨h, h'⟩
    have hz' : wk_bv (k ≤ 3) z0 := by
      refine wk_iff ⟨fun q => ?_, fun q => ⟨h, nI_nlt (b := k) (a := 3) q (by omega)⟩⟩ hz
      rcases Nat.lt_or_ge 3 k with y | y
      · exact absurd (nI_lt y (by omega)) q.2
      · exact y
    have h38 : (3 < nI k ∨ (¬ x4 < 0 ∧ ¬ 2 < x4)) → wX_add_38 post (nI k) x4 z0 ec 0 0 0 (fun _ => 0) a2 a3 (fun _ => 0) (fun _ => 0) (fun _ => 0) (fun _ => 0) (fun _ => 0) := by
      intro h3
      refine pk_eq k 4 (fun y => br_c (fun q => H0 (fun z => z.2.2.elim (fun t => t (by rw [y]; rfl)) (fun t => t.1 q))) (fun q => br_c (fun q' => ?_) (fun q' => H0 (fun z => z.2.2.elim (fun t => t (by rw [y]; rfl)) (fun t => t.2 (Int32.not_le.mp q')))))) (fun y => ?_)
      · have q9 : ¬ 9 < x4 := Int32.not_lt.mpr q'
        obtain ⟨m, hm, e⟩ := wk_upto (M := 9) (n := 9) rfl (by omega) q q9
        exact wk_a55 hk hz' (m := m) (by omega) (fun _ => e) (fun t => absurd t (by omega)) (H1 k m ⟨⟨h, h'⟩, h3, Or.inr ⟨q, q9⟩⟩ hk rfl (fun t => absurd t (by omega)) (by omega) (fun _ => e) (fun t => absurd t (by omega)))
      · have g4 : ¬ nI k = 4 := fun t => y ((nI_eq (b := 4) (by omega) (by omega)).mp t)
        rcases Nat.lt_or_ge 3 k with t | t
        · exact wk_a55 hk hz' (m := 0) (by omega) (fun t => absurd t (by omega)) (fun _ => rfl) (H1 k 0 ⟨⟨h, h'⟩, h3, Or.inl g4⟩ hk rfl (fun _ => by omega) (by omega) (fun t => absurd t (by omega)) (fun _ => rfl))
        · have q : ¬ x4 < 0 ∧ ¬ 2 < x4 := h3.resolve_left (nI_nlt (b := k) (a := 3) t (by omega))
          obtain ⟨m, hm, e⟩ := wk_upto (M := 2) (n := 2) rfl (by omega) q.1 q.2
          exact wk_a55 hk hz' (m := m) (by omega) (fun _ => e) (fun t => absurd t (by omega)) (H1 k m ⟨⟨h, h'⟩, h3, Or.inl g4⟩ hk rfl (fun _ => hm) (by omega) (fun _ => e) (fun t => absurd t (by omega)))
    refine wk_br hz' (fun y => h38 (Or.inl (nI_lt (a := 3) (by omega) (by omega)))) (fun y => br_c (fun q => H0 (fun z => ?_)) (fun q => br_c (fun q' => H0 (fun z => ?_)) (fun q' => h38 (Or.inr ⟨q, q'⟩))))
    · exact z.2.1.elim (fun t => nI_nlt (b := k) (a := 3) y (by omega) t) (fun t => t.1 q)
    · exact z.2.1.elim (fun t => nI_nlt (b := k) (a := 3) y (by omega) t) (fun t => t.2 q')
  exact br_c (fun h => h14 0 (wk_bf (fun z => z.1 h))) (fun h => br_c (fun h' => h14 0 (wk_bf (fun z => z.2 h'))) (fun h' => h14 1 (wk_bt ⟨h, h'⟩)))
end
section
variable {e sz st kn : Int32} {a1 a2 a3 a4 a5 a6 a7 a8 : Nat → Int32}
theorem wk_from {post : Int32 → St2 → Prop} (H : post 1 (e, sz, 2, 0, a1, a2, a3, a4, a5, a6, a7, a8)) : wpX_from post (e, sz, st, kn, a1, a2, a3, a4, a5, a6, a7, a8) 2 :=
  br_f (by decide) (br_t (by decide) H)
theorem wk_at {post : Int32 → St2 → Prop} {p : Nat} {x1 : Int32} (h6 : wk_on a6 (wk_ind p))
    (H : ∀ r, wk_bv (wk_V x1 ∧ p < 64 ∧ nI (p / 8) = x1) r → post r (e, sz, st, 1, a1, a2, a3, a4, a5, a6, a7, a8)) :
    wpX_at post (e, sz, st, 1, a1, a2, a3, a4, a5, a6, a7, a8) x1 := by
  unfold wpX_at
  refine wk_isV (fun r hr => wk_br hr (fun h => H 0 (wk_bf (fun z => h z.1))) (fun h => ?_))
  refine br_f (by decide) ?_
  obtain ⟨b, hb, rfl⟩ := wk_Vn h
  refine wk_at17 hb h6 (H _ ?_)
  by_cases z : p / 8 = b
  · rw [if_pos z]
    exact Or.inl ⟨⟨h, by omega, by rw [z]⟩, rfl⟩
  · rw [if_neg z]
    exact Or.inr ⟨fun q => z ((nI_eq (by have := q.2.1; omega) (by omega)).mp q.2.2), rfl⟩
end
end
section
/-! the law's own formula, from the answers on -/
def wk_F (x0 x1 x2 x4 : Int32) : Prop := wk_J x0 x1 x2 ∧ (x4 = 2 ∨ x4 = x2)
def wk_O (x0 x1 x2 x4 : Int32) : Prop := wk_F x0 x1 x2 x4 ∧ x0 = 1
def wk_N (x0 x1 x2 x4 : Int32) : Prop := wk_F x0 x1 x2 x4 ∧ x1 = 1
def wk_M (x0 x1 x2 x3 x4 : Int32) : Prop := (x3 = 0 → wk_O x0 x1 x2 x4) ∧ (x3 = 1 → wk_N x0 x1 x2 x4) ∧ (x3 = 2 → wk_O x0 x1 x2 x4 ∨ wk_N x0 x1 x2 x4) ∧ (x3 = 4 → x4 = 0) ∧ ¬ x3 = 5
def wk_D (x0 x1 x2 x3 x4 : Int32) : Prop := ¬ wk_G x3 x4 ∨ wk_M x0 x1 x2 x3 x4
def wk_Q (x0 x1 x2 x3 x4 : Int32) : Prop := wk_G x3 x4 ∧ ((¬ 2 < x3 ∧ wk_M x0 x1 x2 x3 x4) ∨ (x3 = 3 ∧ wk_O x0 x1 x2 x4))
def wk_Y (x0 x1 x2 x3 x4 y : Int32) : Prop := (wk_D x0 x1 x2 x3 x4 ∧ wk_Q x0 x1 x2 x3 x4 → (wk_O x0 x1 x2 x4 → y = x1) ∧ (¬ wk_O x0 x1 x2 x4 → y = x0)) ∧ (wk_D x0 x1 x2 x3 x4 ∧ ¬ wk_Q x0 x1 x2 x3 x4 → y = 1)
theorem wk_uq {P : Prop} {x y : Int32} (h : wk_bv P x) (g : wk_bv P y) : x = y := by
  rcases h with ⟨h, rfl⟩ | ⟨h, rfl⟩
  · rcases g with ⟨g, rfl⟩ | ⟨g, rfl⟩
    · rfl
    · exact absurd h g
  · rcases g with ⟨g, rfl⟩ | ⟨g, rfl⟩
    · exact absurd g h
    · rfl
section
variable {post : Int32 → St0 → Prop} {mc ms kc ks : Nat} {x0 x1 x2 x3 x4 x6 x7 x8 x9 x10 x11 x12 x13 x14 x15 x16 x17 x19 x20 z0 : Int32}
theorem wk_t427 {A B C D : Prop} (h6 : wk_bv A x6) (h14 : wk_bv A x14) (h7 : (B ∧ x7 = 1) ∨ (¬ B ∧ x7 = -1)) (h15 : wk_bv B x15) (h8 : x8 = 1) (h9 : wk_bv C x9) (h20 : wk_bv C x20) (h10 : wk_bv D x10) (hz : wk_bv D z0) (h11 : (C ∧ x11 = -1) ∨ (¬ C ∧ x11 = 1)) (H : post 1 ()) :
    wL_lawOf_427 post mc ms x6 x7 x8 x9 x10 x11 x14 x15 x20 z0 kc ks := by
  have h475 : ∀ y : Int32, x10 = y → wL_lawOf_475 post mc ms x11 x20 y x10 kc ks := by
    intro y hy
    refine br_t hy (wk_br h20 (fun h => br_t ?_ H) (fun h => br_t ?_ H))
    · rcases h11 with ⟨g, _⟩ | ⟨_, g⟩
      · exact absurd g h
      · exact g
    · rcases h11 with ⟨_, g⟩ | ⟨g, _⟩
      · exact g
      · exact absurd h g
  have h448 : ∀ y : Int32, x7 = y → wL_lawOf_448 post mc ms x8 x9 x10 x11 x20 z0 y x7 kc ks := by
    intro y hy
    refine br_t hy (br_f (by rw [h8]; decide) (br_t (wk_uq h9 h20) (wk_br hz (fun h => h475 0 (wk_uq h10 (wk_bf h))) (fun h => h475 1 (wk_uq h10 (wk_bt h))))))
  refine br_t (wk_uq h6 h14) (wk_br h15 (fun h => h448 _ ?_) (fun h => h448 _ ?_))
  · rcases h7 with ⟨g, _⟩ | ⟨_, g⟩
    · exact absurd g h
    · exact g
  · rcases h7 with ⟨_, g⟩ | ⟨g, _⟩
    · exact g
    · exact absurd h g
theorem wk_t403 {C : Prop} (h20 : wk_bv C x20) (h13 : wk_bv (wk_V x1) x13) (H : ∀ z, wk_bv (C ∧ wk_V x1 ∧ z0 = x1) z → wL_lawOf_427 post mc ms x6 x7 x8 x9 x10 x11 x14 x15 x20 z kc ks) :
    wL_lawOf_403 post mc ms x1 x6 x7 x8 x9 x10 x11 x13 x14 x15 x20 z0 kc ks :=
  wk_br1 h20 (fun h => wk_br h13 (fun h2 => H 0 (wk_bf (fun z => h2 z.2.1))) (fun h2 => br_c (fun h3 => H 1 (wk_bt ⟨h, h2, h3⟩)) (fun h3 => H 0 (wk_bf (fun z => h3 z.2.2))))) (fun h => H 0 (wk_bf (fun z => h z.1)))
theorem wk_t373 (h20 : wk_bv (wk_D x0 x1 x2 x3 x4) x20) (hz : wk_bv (wk_Q x0 x1 x2 x3 x4) z0) (h17 : wk_bv (wk_O x0 x1 x2 x4) x17) (H : ∀ y, wk_Y x0 x1 x2 x3 x4 y → wL_lawOf_403 post mc ms x1 x6 x7 x8 x9 x10 x11 x13 x14 x15 x20 y kc ks) :
    wL_lawOf_373 post mc ms x0 x1 x6 x7 x8 x9 x10 x11 x13 x14 x15 x17 x20 z0 kc ks :=
  wk_br h20 (fun h => H 0 ⟨fun t => absurd t.1 h, fun t => absurd t.1 h⟩) (fun h => wk_br hz (fun h2 => H 1 ⟨fun t => absurd t.2 h2, fun _ => rfl⟩) (fun h2 => wk_br h17
    (fun h3 => H x0 ⟨fun _ => ⟨fun t => absurd t h3, fun _ => rfl⟩, fun t => absurd h2 t.2⟩) (fun h3 => H x1 ⟨fun _ => ⟨fun _ => rfl, fun t => absurd h3 t⟩, fun t => absurd h2 t.2⟩)))
theorem wk_t340 (h15 : wk_bv (wk_G x3 x4) x15) (h19 : wk_bv (wk_M x0 x1 x2 x3 x4) x19) (h17 : wk_bv (wk_O x0 x1 x2 x4) x17) (H : ∀ z, wk_bv (wk_Q x0 x1 x2 x3 x4) z → wL_lawOf_373 post mc ms x0 x1 x6 x7 x8 x9 x10 x11 x13 x14 x15 x17 x20 z kc ks) :
    wL_lawOf_340 post mc ms x0 x1 x3 x6 x7 x8 x9 x10 x11 x13 x14 x15 x17 x19 x20 kc ks := by
  have h358 : wk_G x3 x4 → ¬ (¬ 2 < x3 ∧ wk_M x0 x1 x2 x3 x4) → wL_lawOf_358 post mc ms x0 x1 x3 x6 x7 x8 x9 x10 x11 x13 x14 x15 x17 x20 kc ks := fun hG hn =>
    br_c (fun h => wk_br h17 (fun h2 => H 0 (wk_bf (fun z => z.2.elim hn (fun t => h2 t.2)))) (fun h2 => H 1 (wk_bt ⟨hG, Or.inr ⟨h, h2⟩⟩))) (fun h => H 0 (wk_bf (fun z => z.2.elim hn (fun t => h t.1))))
  exact wk_br h15 (fun h => H 0 (wk_bf (fun z => h z.1))) (fun h => br_c (fun h2 => h358 h (fun t => t.1 h2)) (fun h2 => wk_br1 h19 (fun h3 => H 1 (wk_bt ⟨h, Or.inl ⟨h2, h3⟩⟩)) (fun h3 => h358 h (fun t => h3 t.2))))
theorem wk_t327 (h15 : wk_bv (wk_G x3 x4) x15) (h19 : wk_bv (wk_M x0 x1 x2 x3 x4) x19) (H : ∀ z, wk_bv (wk_D x0 x1 x2 x3 x4) z → wL_lawOf_340 post mc ms x0 x1 x3 x6 x7 x8 x9 x10 x11 x13 x14 x15 x17 x19 z kc ks) :
    wL_lawOf_327 post mc ms x0 x1 x3 x6 x7 x8 x9 x10 x11 x13 x14 x15 x17 x19 kc ks :=
  wk_br h15 (fun h => H 1 (wk_bt (Or.inl h))) (fun h => H x19 (wk_iff ⟨fun t => Or.inr t, fun t => t.resolve_left (fun q => q h)⟩ h19))
theorem wk_t230 (h17 : wk_bv (wk_O x0 x1 x2 x4) x17) (hz : wk_bv (wk_N x0 x1 x2 x4) z0) (H : ∀ z, wk_bv (wk_M x0 x1 x2 x3 x4) z → wL_lawOf_327 post mc ms x0 x1 x3 x6 x7 x8 x9 x10 x11 x13 x14 x15 x17 z kc ks) :
    wL_lawOf_230 post mc ms x0 x1 x3 x4 x6 x7 x8 x9 x10 x11 x13 x14 x15 x17 z0 kc ks := by
  refine br_c (fun h => wk_br h17 (fun h2 => H 0 (wk_bf (fun z => h2 (z.1 h)))) (fun h2 => H 1 (wk_bt ?_)))
    (fun n0 => br_c (fun h => wk_br hz (fun h2 => H 0 (wk_bf (fun z => h2 (z.2.1 h)))) (fun h2 => H 1 (wk_bt ?_)))
      (fun n1 => br_c (fun h => wk_br h17 (fun h2 => wk_br hz (fun h3 => H 0 (wk_bf (fun z => (z.2.2.1 h).elim h2 h3))) (fun h3 => H 1 (wk_bt ?_))) (fun h2 => H 1 (wk_bt ?_)))
        (fun n2 => br_c (fun h => H 1 (wk_bt ?_))
          (fun n3 => br_c (fun h => br_c (fun h2 => H 1 (wk_bt ?_)) (fun h2 => H 0 (wk_bf (fun z => h2 (z.2.2.2.1 h)))))
            (fun n4 => br_c (fun h => H 0 (wk_bf (fun z => z.2.2.2.2 h))) (fun n5 => H 1 (wk_bt ?_)))))))
  · exact ⟨fun _ => h2, fun t => absurd (h.symm.trans t) (by decide), fun t => absurd (h.symm.trans t) (by decide), fun t => absurd (h.symm.trans t) (by decide), fun t => absurd (h.symm.trans t) (by decide)⟩
  · exact ⟨fun t => absurd t n0, fun _ => h2, fun t => absurd (h.symm.trans t) (by decide), fun t => absurd (h.symm.trans t) (by decide), fun t => absurd (h.symm.trans t) (by decide)⟩
  · exact ⟨fun t => absurd t n0, fun t => absurd t n1, fun _ => Or.inr h3, fun t => absurd (h.symm.trans t) (by decide), fun t => absurd (h.symm.trans t) (by decide)⟩
  · exact ⟨fun t => absurd t n0, fun t => absurd t n1, fun _ => Or.inl h2, fun t => absurd (h.symm.trans t) (by decide), fun t => absurd (h.symm.trans t) (by decide)⟩
  · exact ⟨fun t => absurd t n0, fun t => absurd t n1, fun t => absurd t n2, fun t => absurd (h.symm.trans t) (by decide), fun t => absurd (h.symm.trans t) (by decide)⟩
  · exact ⟨fun t => absurd t n0, fun t => absurd t n1, fun t => absurd t n2, fun _ => h2, fun t => absurd (h.symm.trans t) (by decide)⟩
  · exact ⟨fun t => absurd t n0, fun t => absurd t n1, fun t => absurd t n2, fun t => absurd t n4, n5⟩
theorem wk_t213 (h16 : wk_bv (wk_F x0 x1 x2 x4) x16) (H : ∀ z, wk_bv (wk_N x0 x1 x2 x4) z → wL_lawOf_230 post mc ms x0 x1 x3 x4 x6 x7 x8 x9 x10 x11 x13 x14 x15 x17 z kc ks) :
    wL_lawOf_213 post mc ms x0 x1 x3 x4 x6 x7 x8 x9 x10 x11 x13 x14 x15 x16 x17 kc ks :=
  wk_br h16 (fun h => H 0 (wk_bf (fun z => h z.1))) (fun h => br_c (fun h2 => H 1 (wk_bt ⟨h, h2⟩)) (fun h2 => H 0 (wk_bf (fun z => h2 z.2))))
theorem wk_t196 (h16 : wk_bv (wk_F x0 x1 x2 x4) x16) (H : ∀ z, wk_bv (wk_O x0 x1 x2 x4) z → wL_lawOf_213 post mc ms x0 x1 x3 x4 x6 x7 x8 x9 x10 x11 x13 x14 x15 x16 z kc ks) :
    wL_lawOf_196 post mc ms x0 x1 x3 x4 x6 x7 x8 x9 x10 x11 x13 x14 x15 x16 kc ks :=
  wk_br h16 (fun h => H 0 (wk_bf (fun z => h z.1))) (fun h => br_c (fun h2 => H 1 (wk_bt ⟨h, h2⟩)) (fun h2 => H 0 (wk_bf (fun z => h2 z.2))))
theorem wk_t172 (h14 : wk_bv (wk_J x0 x1 x2) x14) (H : ∀ z, wk_bv (wk_F x0 x1 x2 x4) z → wL_lawOf_196 post mc ms x0 x1 x3 x4 x6 x7 x8 x9 x10 x11 x13 x14 x15 z kc ks) :
    wL_lawOf_172 post mc ms x0 x1 x2 x3 x4 x6 x7 x8 x9 x10 x11 x13 x14 x15 kc ks :=
  wk_br h14 (fun h => H 0 (wk_bf (fun z => h z.1))) (fun h => br_c (fun h2 => H 1 (wk_bt ⟨h, Or.inl h2⟩)) (fun h2 => br_c (fun h3 => H 1 (wk_bt ⟨h, Or.inr h3⟩)) (fun h3 => H 0 (wk_bf (fun z => z.2.elim h2 h3)))))
theorem wk_t122 (H : ∀ z, wk_bv (wk_G x3 x4) z → wL_lawOf_172 post mc ms x0 x1 x2 x3 x4 x6 x7 x8 x9 x10 x11 x13 x14 z kc ks) :
    wL_lawOf_122 post mc ms x0 x1 x2 x3 x4 x6 x7 x8 x9 x10 x11 x13 x14 kc ks := by
  have h150 : wk_V x3 → (3 < x3 ∨ (¬ x4 < 0 ∧ ¬ 2 < x4)) → wL_lawOf_150 post mc ms x0 x1 x2 x3 x4 x6 x7 x8 x9 x10 x11 x13 x14 kc ks := fun hV h3 =>
    br_c (fun h => br_c (fun h2 => H 0 (wk_bf (fun z => z.2.2.elim (fun t => t h) (fun t => t.1 h2)))) (fun h2 => br_c (fun h4 => H 0 (wk_bf (fun z => z.2.2.elim (fun t => t h) (fun t => t.2 h4)))) (fun h4 => H 1 (wk_bt ⟨hV, h3, Or.inr ⟨h2, h4⟩⟩)))) (fun h => H 1 (wk_bt ⟨hV, h3, Or.inl h⟩))
  exact br_c (fun h => H 0 (wk_bf (fun z => z.1.1 h))) (fun h => br_c (fun h' => H 0 (wk_bf (fun z => z.1.2 h'))) (fun h' => br_c (fun h3 => h150 ⟨h, h'⟩ (Or.inl h3)) (fun h3 =>
    br_c (fun h4 => H 0 (wk_bf (fun z => z.2.1.elim h3 (fun t => t.1 h4)))) (fun h4 => br_c (fun h5 => H 0 (wk_bf (fun z => z.2.1.elim h3 (fun t => t.2 h5)))) (fun h5 => h150 ⟨h, h'⟩ (Or.inr ⟨h4, h5⟩))))))
theorem wk_t91 (h12 : wk_bv (wk_V x0) x12) (h13 : wk_bv (wk_V x1) x13) (H : ∀ z, wk_bv (wk_J x0 x1 x2) z → wL_lawOf_122 post mc ms x0 x1 x2 x3 x4 x6 x7 x8 x9 x10 x11 x13 z kc ks) :
    wL_lawOf_91 post mc ms x0 x1 x2 x3 x4 x6 x7 x8 x9 x10 x11 x12 x13 kc ks :=
  wk_br h12 (fun h => H 0 (wk_bf (fun z => h z.1))) (fun h => wk_br h13 (fun h2 => H 0 (wk_bf (fun z => h2 z.2.1))) (fun h2 => br_c (fun h3 => H 0 (wk_bf (fun z => z.2.2.1 h3))) (fun h3 =>
    br_c (fun h4 => H 1 (wk_bt ⟨h, h2, h3, Or.inl h4⟩)) (fun h4 => br_c (fun h5 => H 1 (wk_bt ⟨h, h2, h3, Or.inr h5⟩)) (fun h5 => H 0 (wk_bf (fun z => z.2.2.2.elim h4 h5)))))))
theorem wk_t74 (H : ∀ z, wk_bv (wk_V x1) z → wL_lawOf_91 post mc ms x0 x1 x2 x3 x4 x6 x7 x8 x9 x10 x11 x12 z kc ks) :
    wL_lawOf_74 post mc ms x0 x1 x2 x3 x4 x6 x7 x8 x9 x10 x11 x12 kc ks :=
  br_c (fun h => H 0 (wk_bf (fun z => z.1 h))) (fun h => br_c (fun h' => H 0 (wk_bf (fun z => z.2 h'))) (fun h' => H 1 (wk_bt ⟨h, h'⟩)))
/-- from the answers to the law's word -/
theorem wk_tail (h6 : wk_bv (wk_J x0 x1 x2) x6) (h7 : (wk_G x3 x4 ∧ x7 = 1) ∨ (¬ wk_G x3 x4 ∧ x7 = -1)) (h8 : x8 = 1) (h9 : wk_bv (wk_D x0 x1 x2 x3 x4) x9)
    (h10 : ∀ y, wk_Y x0 x1 x2 x3 x4 y → wk_bv (wk_D x0 x1 x2 x3 x4 ∧ wk_V x1 ∧ y = x1) x10) (h11 : (wk_D x0 x1 x2 x3 x4 ∧ x11 = -1) ∨ (¬ wk_D x0 x1 x2 x3 x4 ∧ x11 = 1)) (h12 : wk_bv (wk_V x0) x12) (H : post 1 ()) :
    wL_lawOf_74 post mc ms x0 x1 x2 x3 x4 x6 x7 x8 x9 x10 x11 x12 kc ks :=
  wk_t74 (fun _ h13 => wk_t91 h12 h13 (fun _ h14 => wk_t122 (fun _ h15 => wk_t172 h14 (fun _ h16 => wk_t196 h16 (fun _ h17 => wk_t213 h16 (fun _ hn => wk_t230 h17 hn (fun _ h19 => wk_t327 h15 h19 (fun _ h20 => wk_t340 h15 h19 h17 (fun _ hq => wk_t373 h20 hq h17 (fun y hy => wk_t403 h20 h13 (fun _ hh =>
    wk_t427 h6 h14 h7 h15 h8 h9 h20 (h10 y hy) hh h11 H)))))))))))
end
end
section
section
variable {x0 x1 x2 x3 x4 : Int32} {a b l m : Nat}
theorem wk_fI (hE : wk_E x0 x1 x2 a b l) (h4 : x4 = nI m) (hm : m < 10) : wk_F x0 x1 x2 x4 ↔ (a < 8 ∧ (m = 2 ∨ m = l)) := by
  unfold wk_F
  rcases hE with ⟨hJ, ha, hb, hab, hl, e0, e1, e2⟩ | ⟨hJ, e0, e1, e2⟩
  · have g1 : x4 = 2 ↔ m = 2 := by
      rw [h4]
      exact nI_eq (b := 2) (by omega) (by omega)
    have g2 : x4 = x2 ↔ m = l := by
      rw [h4, e2]
      exact nI_eq (by omega) (by omega)
    rw [g1, g2]
    exact ⟨fun t => ⟨ha, t.2⟩, fun t => ⟨hJ, t.2⟩⟩
  · exact ⟨fun t => absurd t.1 hJ, fun t => absurd t.1 (by omega)⟩
theorem wk_oI (hE : wk_E x0 x1 x2 a b l) (h4 : x4 = nI m) (hm : m < 10) : wk_O x0 x1 x2 x4 ↔ (a = 1 ∧ (m = 2 ∨ m = l)) := by
  unfold wk_O
  rw [wk_fI hE h4 hm]
  rcases hE with ⟨hJ, ha, hb, hab, hl, e0, e1, e2⟩ | ⟨hJ, e0, e1, e2⟩
  · have g1 : x0 = 1 ↔ a = 1 := by
      rw [e0]
      exact nI_eq (b := 1) (by omega) (by omega)
    rw [g1]
    omega
  · constructor
    · intro t
      exact absurd t.1.1 (by omega)
    · intro t
      exact absurd t.1 (by omega)
theorem wk_nnI (hE : wk_E x0 x1 x2 a b l) (h4 : x4 = nI m) (hm : m < 10) : wk_N x0 x1 x2 x4 ↔ (b = 1 ∧ (m = 2 ∨ m = l)) := by
  unfold wk_N
  rw [wk_fI hE h4 hm]
  rcases hE with ⟨hJ, ha, hb, hab, hl, e0, e1, e2⟩ | ⟨hJ, e0, e1, e2⟩
  · have g1 : x1 = 1 ↔ b = 1 := by
      rw [e1]
      exact nI_eq (b := 1) (by omega) (by omega)
    rw [g1]
    omega
  · constructor
    · intro t
      exact absurd t.1.1 (by omega)
    · intro t
      exact absurd t.1 (by omega)
/-- no step: the walker stays -/
theorem wk_fin0 (hG : ¬ wk_G x3 x4) : (wk_D x0 x1 x2 x3 x4 ↔ 9 < 64) ∧ ∀ y, wk_Y x0 x1 x2 x3 x4 y → 9 < 64 → y = nI (9 / 8) :=
  ⟨⟨fun _ => by decide, fun _ => Or.inl hG⟩, fun y hy _ => hy.2 ⟨Or.inl hG, fun t => hG t.1⟩⟩
/-- one step: the walker is where the law says -/
theorem wk_fin1 {k : Nat} (hE : wk_E x0 x1 x2 a b l) (hG : wk_G x3 x4) (hk : k < 8) (h3 : x3 = nI k) (hm2 : k ≤ 3 → m ≤ 2) (hm : m < 10) (h4 : k ≤ 4 → x4 = nI m) :
    (wk_D x0 x1 x2 x3 x4 ↔ wk_P k m a b l < 64) ∧ ∀ y, wk_Y x0 x1 x2 x3 x4 y → wk_P k m a b l < 64 → y = nI (wk_P k m a b l / 8) := by
  have hab := wk_Eab hE
  unfold wk_ab at hab
  have ek : ∀ i : Nat, i < 10 → (x3 = nI i ↔ k = i) := fun i hi => by
    rw [h3]
    exact nI_eq (by omega) (by omega)
  have hO : k ≤ 3 → (wk_O x0 x1 x2 x4 ↔ (a = 1 ∧ (m = 2 ∨ m = l))) := fun z => wk_oI hE (h4 (by omega)) hm
  have hN : k ≤ 3 → (wk_N x0 x1 x2 x4 ↔ (b = 1 ∧ (m = 2 ∨ m = l))) := fun z => wk_nnI hE (h4 (by omega)) hm
  have h0 : k = 4 → (x4 = 0 ↔ m = 0) := fun z => by
    rw [h4 (by omega)]
    exact nI_eq (b := 0) (by omega) (by omega)
  have e0 : x3 = 0 ↔ k = 0 := ek 0 (by omega)
  have e1 : x3 = 1 ↔ k = 1 := ek 1 (by omega)
  have e2 : x3 = 2 ↔ k = 2 := ek 2 (by omega)
  have e3 : x3 = 3 ↔ k = 3 := ek 3 (by omega)
  have e4 : x3 = 4 ↔ k = 4 := ek 4 (by omega)
  have e5 : x3 = 5 ↔ k = 5 := ek 5 (by omega)
  have l2 : 2 < x3 ↔ 2 < k := by
    rw [h3]
    exact nI_ltI (a := 2) (by omega) (by omega)
  have hM : wk_M x0 x1 x2 x3 x4 ↔ ((k = 0 → (a = 1 ∧ (m = 2 ∨ m = l))) ∧ (k = 1 → (b = 1 ∧ (m = 2 ∨ m = l))) ∧ (k = 2 → (a = 1 ∧ (m = 2 ∨ m = l)) ∨ (b = 1 ∧ (m = 2 ∨ m = l))) ∧ (k = 4 → m = 0) ∧ ¬ k = 5) := by
    unfold wk_M
    rw [e0, e1, e2, e4, e5]
    constructor
    · intro t
      exact ⟨fun z => (hO (by omega)).mp (t.1 z), fun z => (hN (by omega)).mp (t.2.1 z), fun z => (t.2.2.1 z).imp (hO (by omega)).mp (hN (by omega)).mp, fun z => (h0 z).mp (t.2.2.2.1 z), t.2.2.2.2⟩
    · intro t
      exact ⟨fun z => (hO (by omega)).mpr (t.1 z), fun z => (hN (by omega)).mpr (t.2.1 z), fun z => (t.2.2.1 z).imp (hO (by omega)).mpr (hN (by omega)).mpr, fun z => (h0 z).mpr (t.2.2.2.1 z), t.2.2.2.2⟩
  have hD : wk_D x0 x1 x2 x3 x4 ↔ wk_P k m a b l < 64 := by
    unfold wk_D
    rw [hM]
    refine ⟨fun t => ?_, fun t => Or.inr ?_⟩
    · have t' := t.resolve_left (fun q => q hG)
      clear t ek hO hN h0 e0 e1 e2 e3 e4 e5 l2 hM
      unfold wk_P
      grind
    · clear ek hO hN h0 e0 e1 e2 e3 e4 e5 l2 hM
      unfold wk_P at t
      grind (splits := 20)
  have hQ : wk_Q x0 x1 x2 x3 x4 ↔ ((k ≤ 2 ∧ wk_P k m a b l < 64) ∨ (k = 3 ∧ (a = 1 ∧ (m = 2 ∨ m = l)))) := by
    unfold wk_Q
    rw [l2, e3, ← hD]
    constructor
    · intro t
      exact t.2.imp (fun q => ⟨by omega, Or.inr q.2⟩) (fun q => ⟨q.1, (hO (by omega)).mp q.2⟩)
    · intro t
      exact ⟨hG, t.imp (fun q => ⟨by omega, q.2.resolve_left (fun z => z hG)⟩) (fun q => ⟨q.1, (hO (by omega)).mpr q.2⟩)⟩
  refine ⟨hD, fun y hy hp => ?_⟩
  have d := hD.mpr hp
  by_cases q : wk_Q x0 x1 x2 x3 x4
  · have q' := hQ.mp q
    have k3 : k ≤ 3 := by omega
    by_cases o : a = 1 ∧ (m = 2 ∨ m = l)
    · rw [(hy.1 ⟨d, q⟩).1 ((hO k3).mpr o)]
      rcases hE with ⟨_, ha, hb, hab', hl, _, e, _⟩ | ⟨_, ea, _⟩
      · rw [e]
        refine congrArg nI ?_
        clear ek hO hN h0 e0 e1 e2 e3 e4 e5 l2 hM hD hQ
        unfold wk_P at hp ⊢
        grind
      · omega
    · rw [(hy.1 ⟨d, q⟩).2 (fun t => o ((hO k3).mp t))]
      rcases hE with ⟨_, ha, hb, hab', hl, e, _⟩ | ⟨_, ea, eb, _⟩
      · rw [e]
        refine congrArg nI ?_
        clear ek hO hN h0 e0 e1 e2 e3 e4 e5 l2 hM hD hQ
        unfold wk_P at hp ⊢
        grind
      · exfalso
        clear ek hO hN h0 e0 e1 e2 e3 e4 e5 l2 hM hD hQ
        unfold wk_P at hp
        grind
  · have q' : ¬ ((k ≤ 2 ∧ wk_P k m a b l < 64) ∨ (k = 3 ∧ (a = 1 ∧ (m = 2 ∨ m = l)))) := fun t => q (hQ.mpr t)
    rw [hy.2 ⟨d, q⟩]
    show nI 1 = _
    refine congrArg nI ?_
    clear ek hO hN h0 e0 e1 e2 e3 e4 e5 l2 hM hD hQ
    unfold wk_P at hp q' ⊢
    grind
theorem wk_rest {post : Int32 → St0 → Prop} {mc ms kc ks p : Nat} {r1 r2 r4 r5 r6 : Int32} (h1 : wk_bv (wk_J x0 x1 x2) r1) (h2 : (wk_G x3 x4 ∧ r2 = 1) ∨ (¬ wk_G x3 x4 ∧ r2 = -1))
    (hf : (wk_D x0 x1 x2 x3 x4 ↔ p < 64) ∧ ∀ y, wk_Y x0 x1 x2 x3 x4 y → p < 64 → y = nI (p / 8)) (h4 : r4 = nI (if p < 64 then 1 else 0)) (h5 : wk_bv (wk_V x1 ∧ p < 64 ∧ nI (p / 8) = x1) r5) (h6 : (p < 64 ∧ r6 = -1) ∨ (¬ p < 64 ∧ r6 = 1)) (H : post 1 ()) :
    (x0 < 0 → wL_lawOf_73 post mc ms x0 x1 x2 x3 x4 r1 r2 1 r4 r5 r6 kc ks) ∧ (¬ x0 < 0 → (7 < x0 → wL_lawOf_73 post mc ms x0 x1 x2 x3 x4 r1 r2 1 r4 r5 r6 kc ks) ∧ (¬ 7 < x0 → wL_lawOf_74 post mc ms x0 x1 x2 x3 x4 r1 r2 1 r4 r5 r6 1 kc ks)) := by
  have t : ∀ x12, wk_bv (wk_V x0) x12 → wL_lawOf_74 post mc ms x0 x1 x2 x3 x4 r1 r2 1 r4 r5 r6 x12 kc ks := by
    intro x12 h12
    refine wk_tail h1 h2 rfl ?_ (fun y hy => ?_) ?_ h12 H
    · refine wk_iff hf.1.symm ?_
      rw [h4]
      by_cases z : p < 64
      · rw [if_pos z]
        exact wk_bt z
      · rw [if_neg z]
        exact wk_bf z
    · refine wk_iff ⟨fun q => ⟨hf.1.mpr q.2.1, q.1, ?_⟩, fun q => ⟨q.2.1, hf.1.mp q.1, ?_⟩⟩ h5
      · rw [hf.2 y hy q.2.1]
        exact q.2.2
      · rw [← hf.2 y hy (hf.1.mp q.1)]
        exact q.2.2
    · rw [hf.1]
      exact h6
  exact br_c (fun h => t 0 (wk_bf (fun z => z.1 h))) (fun h => br_c (fun h' => t 0 (wk_bf (fun z => z.2 h'))) (fun h' => t 1 (wk_bt ⟨h, h'⟩)))
end
theorem wk_law {post : Int32 → St0 → Prop} {x0 x1 x2 x3 x4 : Int32} (H : post 1 ()) : wpL_lawOf post 104 1648 () x0 x1 x2 x3 x4 := by
  refine ⟨by omega, by omega, 103, 1636, by omega, by omega, ?_⟩
  refine ⟨by omega, by omega, by omega, by omega, by omega, by omega, by omega, by omega, by omega, by omega, by omega, by omega, by omega, by omega, by omega, by omega, ?_⟩
  refine wk_join (fun r1 ec a2 a3 a b l h1 hE ho hz hi => wk_add (fun hG => ?_) (fun k m hG hk h3 hm2 hm h4 h5 => ?_))
  · refine wk_from (wk_walkers (z := 0) (k := 0) (n := 0) (by omega) (fun y => absurd y (by omega)) (wk_Eab hE) (fun _ _ => rfl) ho hz hi (fun p a6 a7 a8 q1 q2 q3 q4 q5 => ?_))
    have ep := q1 rfl
    subst ep
    exact wk_at q3 (fun r5 h5 => wk_dies (p := 9) (by omega) q1 q4 q5 (fun r6 h6 => wk_rest h1 (Or.inr ⟨hG, rfl⟩) (wk_fin0 hG) rfl h5 h6 H))
  · refine wk_from (wk_walkers (z := 1) (k := k) (n := m) (by omega) (fun _ => ⟨hk, hm2, fun _ => hm, pk_us, pk_us⟩) (wk_Eab hE) (fun _ _ => rfl) ho hz hi (fun p a6 a7 a8 q1 q2 q3 q4 q5 => ?_))
    have ep := q2 rfl
    subst ep
    exact wk_at q3 (fun r5 h5' => wk_dies (by omega) q1 q4 q5 (fun r6 h6 => wk_rest h1 (Or.inl ⟨hG, rfl⟩) (wk_fin1 hE hG hk h3 hm2 hm h4) rfl h5' h6 H))
theorem wk_cell {post : Int32 → Prop} {L : Nat} {xs : Nat → Int32} (i : Nat) (hi : i < 5) (hL : L ≤ 5) (H : ∀ r, post r) : wpL_cellAt post L xs () (nI i) :=
  pk_le L i (fun _ => H 0) (fun z => ⟨pk_in i L z, H _⟩)
theorem i_vc (xs : Nat → Int32) (L : Nat) (hL : L ≤ 5) : wpL_law (fun r => r = 1) L xs :=
  wk_cell 0 (by omega) hL (fun r0 => wk_cell 1 (by omega) hL (fun r1 => wk_cell 2 (by omega) hL (fun r2 => wk_cell 3 (by omega) hL (fun r3 => wk_cell 4 (by omega) hL (fun r4 =>
    ⟨104, 1648, by omega, by omega, wk_law rfl⟩)))))
end
