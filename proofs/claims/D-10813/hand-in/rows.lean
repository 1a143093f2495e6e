section
/-! the pure picture: letter t alone in formula w; a question V on its value; o: the values open to the letters -/
def tv_up (o : Nat → Nat) (j x : Nat) : Nat → Nat := fun i => if i = j then x else o i
theorem tv_ups {o : Nat → Nat} {j x : Nat} : tv_up o j x j = x := by unfold tv_up; exact if_pos rfl
theorem tv_upn {o : Nat → Nat} {i j x : Nat} (h : i ≠ j) : tv_up o j x i = o i := by unfold tv_up; exact if_neg h
theorem tv_upu {o : Nat → Nat} {j x y : Nat} : tv_up (tv_up o j x) j y = tv_up o j y := by
  funext i
  by_cases h : i = j
  · rw [h, tv_ups, tv_ups]
  · rw [tv_upn h, tv_upn h, tv_upn h]
theorem tv_upi {o : Nat → Nat} {j : Nat} : tv_up o j (o j) = o := by
  funext i
  by_cases h : i = j
  · rw [h, tv_ups]
  · rw [tv_upn h]
theorem tv_up8 {o : Nat → Nat} {j x : Nat} (ho : ∀ i, i < 4 → o i < 8) (hx : x < 8) : ∀ i, i < 4 → tv_up o j x i < 8 := by
  intro i hi
  by_cases h : i = j
  · rw [h, tv_ups]; exact hx
  · rw [tv_upn h]; exact ho i hi
def tv_hit (o : Nat → Nat) (j t V i : Nat) : Bool := decide (o j / 2 ^ i % 2 = 1) && decide (¬ tv_up o j (2 ^ i) t &&& V = 0)
def tv_k (o : Nat → Nat) (j t V : Nat) : Nat := if tv_hit o j t V 0 = true then 0 else if tv_hit o j t V 1 = true then 1 else 2
def tv_n (o : Nat → Nat) (j t V : Nat) : Nat → Nat := tv_up o j (2 ^ tv_k o j t V)
def tv_ok (o : Nat → Nat) (j t V : Nat) : Bool := tv_hit o j t V (tv_k o j t V)
def tv_o3 (o : Nat → Nat) (t V : Nat) : Nat → Nat := tv_n o 3 t V
def tv_o2 (o : Nat → Nat) (t V : Nat) : Nat → Nat := tv_n (tv_o3 o t V) 2 t V
def tv_o1 (o : Nat → Nat) (t V : Nat) : Nat → Nat := tv_n (tv_o2 o t V) 1 t V
def tv_num (o : Nat → Nat) (t V : Nat) : Nat := 3 * (3 * (3 * (3 * 0 + tv_k o 3 t V) + tv_k (tv_o3 o t V) 2 t V) + tv_k (tv_o2 o t V) 1 t V) + tv_k (tv_o1 o t V) 0 t V
def tv_oks (o : Nat → Nat) (t V : Nat) : Bool := tv_ok o 3 t V && tv_ok (tv_o3 o t V) 2 t V && tv_ok (tv_o2 o t V) 1 t V && tv_ok (tv_o1 o t V) 0 t V
theorem tv_k3 (o : Nat → Nat) (j t V : Nat) : tv_k o j t V < 3 := by
  unfold tv_k
  by_cases h : tv_hit o j t V 0 = true
  · rw [if_pos h]; omega
  · rw [if_neg h]
    by_cases h1 : tv_hit o j t V 1 = true
    · rw [if_pos h1]; omega
    · rw [if_neg h1]; omega
theorem tv_kn (o : Nat → Nat) (j t V : Nat) : ∀ i, i < tv_k o j t V → ¬ tv_hit o j t V i = true := by
  intro i hi
  unfold tv_k at hi
  by_cases h : tv_hit o j t V 0 = true
  · rw [if_pos h] at hi; omega
  · rw [if_neg h] at hi
    by_cases h1 : tv_hit o j t V 1 = true
    · rw [if_pos h1] at hi
      have : i = 0 := by omega
      rw [this]; exact h
    · rw [if_neg h1] at hi
      have : i = 0 ∨ i = 1 := by omega
      rcases this with e | e
      · rw [e]; exact h
      · rw [e]; exact h1
theorem tv_p8 {k : Nat} (h : k < 3) : 2 ^ k < 8 := by
  have : k = 0 ∨ k = 1 ∨ k = 2 := by omega
  rcases this with e | e | e <;> rw [e] <;> decide
theorem tv_n8 {o : Nat → Nat} {j t V : Nat} (ho : ∀ i, i < 4 → o i < 8) : ∀ i, i < 4 → tv_n o j t V i < 8 := tv_up8 ho (tv_p8 (tv_k3 o j t V))
/-- the least number for the question, or -1 -/
def tv_res (o : Nat → Nat) (t V : Nat) : Int32 := if o t &&& V = 0 then -1 else nI (tv_num o t V)
def tv_best (b r : Int32) : Int32 := if r < 0 then b else if b < 0 then r else if b ≤ r then b else r
/-! tables -/
def tv_7 : Nat → Nat := fun _ => 7
theorem tv_t1 : ∀ t, t < 4 → ∀ v, v < 3 → (¬ tv_7 t &&& 2 ^ v = 0) ∧ tv_oks tv_7 t (2 ^ v) = true ∧ tv_num tv_7 t (2 ^ v) = v * 3 ^ t := by decide +kernel
theorem tv_t2 : ∀ t, t < 4 → ∀ l, l < 4 → ∀ v, v < 3 → (tv_up tv_7 l (2 ^ v) t &&& (7 - 2 ^ v) = 0) ∨ tv_oks (tv_up tv_7 l (2 ^ v)) t (7 - 2 ^ v) = true := by decide +kernel
def tv_ap (t l : Nat) : Int32 := tv_best (tv_best (tv_best (-1) (tv_res (tv_up tv_7 l (2 ^ 0)) t (7 - 2 ^ 0))) (tv_res (tv_up tv_7 l (2 ^ 1)) t (7 - 2 ^ 1))) (tv_res (tv_up tv_7 l (2 ^ 2)) t (7 - 2 ^ 2))
theorem tv_t3 : ∀ t, t < 4 → ∀ l, l < 4 → tv_ap t l = if l = t then -1 else nI (min (3 ^ t) (3 ^ l)) := by decide +kernel
theorem tv_b8 : ∀ k, k < 8 → (nI k).toInt8.toInt32 = nI k := by decide +kernel
theorem tv_an : ∀ k, k < 8 → ∀ V, V < 8 → (nI k &&& nI V).toInt8.toInt32 = nI (k &&& V) := by decide +kernel
theorem tv_and8 : ∀ k, k < 8 → ∀ V, V < 8 → k &&& V < 8 := by decide +kernel
theorem tv_sh : ∀ v, v < 3 → (1 : Int32) <<< (nI v &&& 31) = nI (2 ^ v) := by decide +kernel
theorem tv_no : ∀ v, v < 3 → (7 : Int32) &&& (((1 : Int32) <<< (nI v &&& 31)) ^^^ (-1)) = nI (7 - 2 ^ v) := by decide +kernel
theorem tv_bi : ∀ q, q < 8 → ∀ i, i < 3 → ((nI q >>> (nI i &&& 31)) &&& 1 = 0 ↔ ¬ q / 2 ^ i % 2 = 1) := by decide +kernel
end
section
/-! formulas: feed, complete, read -/
theorem tv_isF {post : Int32 → Prop} {w : Nat} (hw : w < 2) (h : post 1) : wpX_isFormula post () (nI w) := by
  have : w = 0 ∨ w = 1 := by omega
  rcases this with e | e <;> subst e
  · exact br_t (by decide) h
  · exact br_f (by decide) (br_t (by decide) h)
theorem tv_isFN {post : Int32 → Prop} {p : Int32} (h0 : ¬ p = 0) (h1 : ¬ p = 1) (h : post 0) : wpX_isFormula post () p := br_f h0 (br_f h1 h)
theorem tv_9 {w k : Nat} (x : Int32) (hx : x = nI k) : nI w * 9 + x = nI (w * 9 + k) := by
  rw [hx, show (9 : Int32) = nI 9 from rfl, pk_mul, nI_add]
/-- the letter t alone in formula w -/
def tv_L (w t : Nat) (u : St2) : Prop := match u with
  | (lg, oc, de, hd, fv, ov, a1, a2, a3, a4, a5, a6, a7, a8, a9, a10, a11, a12, a13, a14) => a1 (w * 9) = nI (4 + t) ∧ a2 w = 1
/-- formula w empty -/
def tv_E (w : Nat) (u : St2) : Prop := match u with
  | (lg, oc, de, hd, fv, ov, a1, a2, a3, a4, a5, a6, a7, a8, a9, a10, a11, a12, a13, a14) => a2 w = 0
/-- the token t, no letter, alone in formula w -/
def tv_C (w t : Nat) (u : St2) : Prop := match u with
  | (lg, oc, de, hd, fv, ov, a1, a2, a3, a4, a5, a6, a7, a8, a9, a10, a11, a12, a13, a14) => a1 (w * 9) = nI t ∧ a2 w = 1
theorem tv_readL {post : St2 → Prop} {w t : Nat} {lg oc de hd fv ov : Int32} {a1 a2 a3 a4 a5 a6 a7 a8 a9 a10 a11 a12 a13 a14 : Nat → Int32} (hw : w < 2) (ht : t < 4) (h1 : a1 (w * 9) = nI (4 + t)) (h2 : a2 w = 1) (H : post (lg, 0, de, hd, fv, ov, a1, a2, a3, a4, a5, a6, a7, a8, a9, a10, a11, a12, a13, a14)) : wpX_read post (lg, oc, de, hd, fv, ov, a1, a2, a3, a4, a5, a6, a7, a8, a9, a10, a11, a12, a13, a14) (nI w) := by
  refine ⟨2, ?_⟩
  refine ⟨pk_in w 2 hw, br_f ?_ (nm_r (e' := nI (w * 9)) (tv_9 (k := 0) 0 rfl) (br_t (by decide) ⟨pk_in (w * 9) 18 (by omega), ?_⟩))⟩
  · rw [nI_clamp (by omega), h2]; decide
  · rw [nI_clamp (by omega), h1]
    refine br_f (nI_ne0 (by omega) (by omega)) (br_t (nI_le (a := 4) (by omega) (by omega)) (br_t (by decide) (nm_r (e' := 1) rfl ⟨pk_in w 2 hw, br_t ?_ H⟩)))
    rw [nI_clamp (by omega), h2]; decide
theorem tv_readE {post : St2 → Prop} {w : Nat} {lg oc de hd fv ov : Int32} {a1 a2 a3 a4 a5 a6 a7 a8 a9 a10 a11 a12 a13 a14 : Nat → Int32} (hw : w < 2) (h2 : a2 w = 0) (H : post (lg, 0, de, hd, fv, ov, a1, a2, a3, a4, a5, a6, a7, a8, a9, a10, a11, a12, a13, a14)) : wpX_read post (lg, oc, de, hd, fv, ov, a1, a2, a3, a4, a5, a6, a7, a8, a9, a10, a11, a12, a13, a14) (nI w) := by
  refine ⟨1, ⟨pk_in w 2 hw, br_t ?_ H⟩⟩
  rw [nI_clamp (by omega), h2]; decide
theorem tv_wants {post : Int32 → Prop} {t : Nat} (ht : t < 4) (h1 : post 1) (h2 : post 2) : wpX_wants post () (nI t) := by
  refine br_c (fun _ => h1) (fun _ => br_f ?_ h2)
  exact nI_ge (b := 4) ht (by omega)
theorem tv_readC {post : St2 → Prop} {w t : Nat} {lg oc de hd fv ov : Int32} {a1 a2 a3 a4 a5 a6 a7 a8 a9 a10 a11 a12 a13 a14 : Nat → Int32} (hw : w < 2) (ht : t < 4) (h1 : a1 (w * 9) = nI t) (h2 : a2 w = 1) (H : ∀ a4 a5, post (lg, 1, de, hd, fv, ov, a1, a2, a3, a4, a5, a6, a7, a8, a9, a10, a11, a12, a13, a14)) : wpX_read post (lg, oc, de, hd, fv, ov, a1, a2, a3, a4, a5, a6, a7, a8, a9, a10, a11, a12, a13, a14) (nI w) := by
  refine ⟨2, ?_⟩
  refine ⟨pk_in w 2 hw, br_f ?_ (nm_r (e' := nI (w * 9)) (tv_9 (k := 0) 0 rfl) (br_t (by decide) ⟨pk_in (w * 9) 18 (by omega), ?_⟩))⟩
  · rw [nI_clamp (by omega), h2]; decide
  · rw [nI_clamp (by omega), h1]
    have hz : a2 (nI w).toNatClampNeg ≤ 1 := by rw [nI_clamp (by omega), h2]; decide
    refine tv_wants ht ?_ ?_
    · exact br_f (by decide) ⟨pk_in 0 10 (by omega), nm_e ⟨pk_in 0 10 (by omega), nm_e (nm_r (e' := 1) rfl (nm_r (e' := 1) rfl ⟨pk_in w 2 hw, br_t hz (H _ _)⟩))⟩⟩
    · exact br_f (by decide) ⟨pk_in 0 10 (by omega), nm_e ⟨pk_in 0 10 (by omega), nm_e (nm_r (e' := 1) rfl (nm_r (e' := 1) rfl ⟨pk_in w 2 hw, br_t hz (H _ _)⟩))⟩⟩
theorem tv_compN {post : Int32 → St2 → Prop} {u : St2} {p : Int32} (h0 : ¬ p = 0) (h1 : ¬ p = 1) (H : post 0 u) : wpX_complete post u p := by
  obtain ⟨lg, oc, de, hd, fv, ov, a1, a2, a3, a4, a5, a6, a7, a8, a9, a10, a11, a12, a13, a14⟩ := u
  unfold wpX_complete
  exact tv_isFN h0 h1 (br_t rfl H)
theorem tv_compE {post : Int32 → St2 → Prop} {u : St2} {w : Nat} (hw : w < 2) (S : tv_E w u) (H : ∀ u', tv_E w u' → post 0 u') : wpX_complete post u (nI w) := by
  obtain ⟨lg, oc, de, hd, fv, ov, a1, a2, a3, a4, a5, a6, a7, a8, a9, a10, a11, a12, a13, a14⟩ := u
  have S' : a2 w = 0 := S
  unfold wpX_complete
  refine tv_isF hw (br_f (by decide) (tv_readE hw S' ⟨pk_in w 2 hw, br_t ?_ (H (lg, 0, de, hd, fv, ov, a1, a2, a3, a4, a5, a6, a7, a8, a9, a10, a11, a12, a13, a14) S')⟩))
  rw [nI_clamp (by omega), S']; decide
theorem tv_compC {post : Int32 → St2 → Prop} {u : St2} {w t : Nat} (hw : w < 2) (ht : t < 4) (S : tv_C w t u) (H : ∀ u', tv_C w t u' → post 0 u') : wpX_complete post u (nI w) := by
  obtain ⟨lg, oc, de, hd, fv, ov, a1, a2, a3, a4, a5, a6, a7, a8, a9, a10, a11, a12, a13, a14⟩ := u
  obtain ⟨S1, S2⟩ : a1 (w * 9) = nI t ∧ a2 w = 1 := S
  unfold wpX_complete
  refine tv_isF hw (br_f (by decide) (tv_readC hw ht S1 S2 (fun a4 a5 => ⟨pk_in w 2 hw, br_f ?_ (br_f (by decide) (H (lg, 1, de, hd, fv, ov, a1, a2, a3, a4, a5, a6, a7, a8, a9, a10, a11, a12, a13, a14) ⟨S1, S2⟩))⟩)))
  rw [nI_clamp (by omega), S2]; decide
theorem tv_compL {post : Int32 → St2 → Prop} {u : St2} {w t : Nat} (hw : w < 2) (ht : t < 4) (S : tv_L w t u) (H : ∀ u', tv_L w t u' → post 1 u') : wpX_complete post u (nI w) := by
  obtain ⟨lg, oc, de, hd, fv, ov, a1, a2, a3, a4, a5, a6, a7, a8, a9, a10, a11, a12, a13, a14⟩ := u
  obtain ⟨S1, S2⟩ : a1 (w * 9) = nI (4 + t) ∧ a2 w = 1 := S
  unfold wpX_complete
  refine tv_isF hw (br_f (by decide) (tv_readL hw ht S1 S2 ⟨pk_in w 2 hw, br_f ?_ (br_t rfl (H (lg, 0, de, hd, fv, ov, a1, a2, a3, a4, a5, a6, a7, a8, a9, a10, a11, a12, a13, a14) ⟨S1, S2⟩))⟩))
  rw [nI_clamp (by omega), S2]; decide
theorem tv_tb : ∀ t, t < 8 → (nI t).toInt8.toInt32 = nI t := by decide +kernel
/-- the first feed of a good token -/
theorem tv_feed1 {post : Int32 → St2 → Prop} {u : St2} {w t : Nat} (hw : w < 2) (ht : t < 8) (S : tv_E w u) (H : ∀ u', tv_C w t u' → post 1 u') : wpX_feed post u (nI w) (nI t) := by
  obtain ⟨lg, oc, de, hd, fv, ov, a1, a2, a3, a4, a5, a6, a7, a8, a9, a10, a11, a12, a13, a14⟩ := u
  have S' : a2 w = 0 := S
  unfold wpX_feed
  refine tv_isF hw (br_f (by decide) (br_f (nI_pos (by omega)) (br_f ?_ ⟨pk_in w 2 hw, br_f ?_ (tv_compE hw S ?_)⟩)))
  · exact nI_nlt (b := t) (a := 7) (by omega) (by omega)
  · rw [nI_clamp (by omega), S']; decide
  · intro u' Su
    clear S S'
    obtain ⟨lg, oc, de, hd, fv, ov, a1, a2, a3, a4, a5, a6, a7, a8, a9, a10, a11, a12, a13, a14⟩ := u'
    have S' : a2 w = 0 := Su
    refine br_t rfl ⟨pk_in w 2 hw, ?_⟩
    have e : nI w * 9 + a2 (nI w).toNatClampNeg = nI (w * 9) := by
      rw [nI_clamp (by omega), S']; exact tv_9 (k := 0) 0 rfl
    have e1 : (a2 (nI w).toNatClampNeg + 1).toInt8.toInt32 = 1 := by
      rw [nI_clamp (by omega), S']; decide
    rw [e, e1, tv_tb t ht, nI_clamp (show w * 9 < 2 ^ 31 by omega), nI_clamp (show w < 2 ^ 31 by omega)]
    refine ⟨pk_in (w * 9) 18 (by omega), nm_e ⟨pk_in w 2 hw, pk_in w 2 hw, nm_e ⟨pk_in w 2 hw, ?_⟩⟩⟩
    rw [pk_us]
    exact H _ ⟨pk_us, pk_us⟩
/-- the late feed, a token that isn't a letter -/
theorem tv_feed2 {post : Int32 → St2 → Prop} {u : St2} {w t : Nat} (hw : w < 2) (ht : t < 4) (S : tv_C w t u) (H : ∀ u', post 2 u') : wpX_feed post u (nI w) (nI t) := by
  obtain ⟨lg, oc, de, hd, fv, ov, a1, a2, a3, a4, a5, a6, a7, a8, a9, a10, a11, a12, a13, a14⟩ := u
  have hS : a1 (w * 9) = nI t ∧ a2 w = 1 := S
  obtain ⟨S1, S2⟩ := hS
  unfold wpX_feed
  refine tv_isF hw (br_f (by decide) (br_f (nI_pos (by omega)) (br_f ?_ ⟨pk_in w 2 hw, br_f ?_ (tv_compC hw ht S ?_)⟩)))
  · exact nI_nlt (b := t) (a := 7) (by omega) (by omega)
  · rw [nI_clamp (by omega), S2]; decide
  · intro u' Su
    clear S S1 S2
    obtain ⟨lg, oc, de, hd, fv, ov, a1, a2, a3, a4, a5, a6, a7, a8, a9, a10, a11, a12, a13, a14⟩ := u'
    obtain ⟨S1, S2⟩ : a1 (w * 9) = nI t ∧ a2 w = 1 := Su
    refine br_t rfl ⟨pk_in w 2 hw, ?_⟩
    have e : nI w * 9 + a2 (nI w).toNatClampNeg = nI (w * 9 + 1) := by
      rw [nI_clamp (by omega), S2]; exact tv_9 (k := 1) 1 rfl
    have e1 : (a2 (nI w).toNatClampNeg + 1).toInt8.toInt32 = 2 := by
      rw [nI_clamp (by omega), S2]; decide
    rw [e, e1, nI_clamp (show w * 9 + 1 < 2 ^ 31 by omega), nI_clamp (show w < 2 ^ 31 by omega)]
    refine ⟨pk_in (w * 9 + 1) 18 (by omega), nm_e ⟨pk_in w 2 hw, pk_in w 2 hw, nm_e ⟨pk_in w 2 hw, ?_⟩⟩⟩
    rw [pk_us]
    exact H _
/-- the late feed, a letter -/
theorem tv_feedL {post : Int32 → St2 → Prop} {u : St2} {w t : Nat} {p : Int32} (hw : w < 2) (ht : t < 4) (S : tv_L w t u) (H : ∀ u', post (-1) u') : wpX_feed post u (nI w) p := by
  obtain ⟨lg, oc, de, hd, fv, ov, a1, a2, a3, a4, a5, a6, a7, a8, a9, a10, a11, a12, a13, a14⟩ := u
  have hS : a1 (w * 9) = nI (4 + t) ∧ a2 w = 1 := S
  obtain ⟨S1, S2⟩ := hS
  unfold wpX_feed
  refine tv_isF hw (br_f (by decide) (br_c (fun _ => H _) (fun _ => br_c (fun _ => H _) (fun _ => ⟨pk_in w 2 hw, br_f ?_ (tv_compL hw ht S ?_)⟩))))
  · rw [nI_clamp (by omega), S2]; decide
  · intro u' _
    obtain ⟨lg, oc, de, hd, fv, ov, a1, a2, a3, a4, a5, a6, a7, a8, a9, a10, a11, a12, a13, a14⟩ := u'
    exact br_f (by decide) (H _)
/-- a feed that is refused -/
theorem tv_feedW {post : Int32 → St2 → Prop} {u : St2} {p q : Int32} (h0 : ¬ p = 0) (h1 : ¬ p = 1) (H : post (-1) u) : wpX_feed post u p q := by
  obtain ⟨lg, oc, de, hd, fv, ov, a1, a2, a3, a4, a5, a6, a7, a8, a9, a10, a11, a12, a13, a14⟩ := u
  unfold wpX_feed
  exact tv_isFN h0 h1 (br_t rfl H)
theorem tv_feedT {post : Int32 → St2 → Prop} {u : St2} {w : Nat} {q : Int32} (hw : w < 2) (hq : q < 0 ∨ 7 < q) (H : post (-1) u) : wpX_feed post u (nI w) q := by
  obtain ⟨lg, oc, de, hd, fv, ov, a1, a2, a3, a4, a5, a6, a7, a8, a9, a10, a11, a12, a13, a14⟩ := u
  unfold wpX_feed
  refine tv_isF hw (br_f (by decide) (br_c (fun _ => H) (fun z => br_c (fun _ => H) (fun z2 => ?_))))
  rcases hq with h | h
  · exact absurd h z
  · exact absurd h z2
end
section
/-! the question: meets -/
def tv_S (w t V : Nat) (o : Nat → Nat) (u : St2) : Prop := match u with
  | (lg, oc, de, hd, fv, ov, a1, a2, a3, a4, a5, a6, a7, a8, a9, a10, a11, a12, a13, a14) => a1 (w * 9) = nI (4 + t) ∧ a2 w = 1 ∧ fv = (if w = 0 then nI V else 7) ∧ ov = (if w = 0 then 7 else nI V) ∧ ∀ i, i < 4 → a13 i = nI (o i)
theorem tv_SL {w t V : Nat} {o : Nat → Nat} {u : St2} (S : tv_S w t V o u) : tv_L w t u := by
  obtain ⟨lg, oc, de, hd, fv, ov, a1, a2, a3, a4, a5, a6, a7, a8, a9, a10, a11, a12, a13, a14⟩ := u
  exact ⟨S.1, S.2.1⟩
theorem tv_goOn {post : Int32 → St2 → Prop} {w t V k : Nat} {lg oc fv ov : Int32} {a1 a2 a3 a4 a5 a6 a7 a8 a9 a10 a11 a12 a13 a14 : Nat → Int32} (hw : w < 2) (ht : t < 4) (hk : k < 8) (hV : V < 8) (h1 : a1 (w * 9) = nI (4 + t)) (h6 : a6 0 = nI (w * 9)) (h7 : a7 0 = nI V) (h8 : a8 t = nI k) (H : ∀ hd a8, post (if k &&& V = 0 then 0 else 1) (lg, oc, 1, hd, fv, ov, a1, a2, a3, a4, a5, a6, a7, a8, a9, a10, a11, a12, a13, a14)) : wpX_goOn post (lg, oc, 1, 0, fv, ov, a1, a2, a3, a4, a5, a6, a7, a8, a9, a10, a11, a12, a13, a14) := by
  refine ⟨2, ?_⟩
  refine br_f (by decide) ⟨pk_in 0 32 (by omega), nm_r (e' := nI (w * 9)) h6 ⟨pk_in (w * 9) 18 (by omega), nm_r (e' := nI (4 + t)) ?_ (br_f ?_ (nm_r (e' := nI t) ?_ ⟨pk_in t 4 ht, pk_in 0 32 (by omega), pk_in t 4 ht, nm_r (e' := upd a8 t (nI (k &&& V))) ?_ ⟨pk_in t 4 ht, ?_⟩⟩))⟩⟩
  · rw [nI_clamp (by omega)]; exact h1
  · exact nI_nlt (b := 4) (by omega) (by omega)
  · rw [show (4 : Int32) = nI 4 from rfl, pk_sub (by omega), Nat.add_sub_cancel_left]
  · rw [nI_clamp (by omega), h8]
    show upd a8 t ((nI k &&& a7 0).toInt8.toInt32) = _
    rw [h7, tv_an k hk V hV]
  · rw [nI_clamp (by omega), pk_us]
    by_cases hz : k &&& V = 0
    · have H' := H 0 (upd a8 t (nI (k &&& V)))
      rw [if_pos hz] at H'
      exact br_t (by rw [hz]; rfl) H'
    · have H' := H 1 (upd a8 t (nI (k &&& V)))
      rw [if_neg hz] at H'
      have := tv_and8 k hk V hV
      exact br_f (nI_ne0 (by omega) (by omega)) (nm_r (e' := 1) rfl (br_t (by decide) H'))
theorem tv_m81 {post : Int32 → St2 → Prop} {r : Int32} {lg oc de hd fv ov : Int32} {a1 a2 a3 a4 a5 a6 a7 a8 a9 a10 a11 a12 a13 a14 : Nat → Int32} (hr : r = 0 ∨ r = 1) (H : post r (lg, oc, de, hd, fv, ov, a1, a2, a3, a4, a5, a6, a7, a8, a9, a10, a11, a12, a13, a14)) : ∃ n, wX_meets_81 post n 0 r 0 lg oc de hd fv ov a1 a2 a3 a4 a5 a6 a7 a8 a9 a10 a11 a12 a13 a14 := by
  refine ⟨1, br_f (by decide) ?_⟩
  rcases hr with e | e
  · subst e
    exact br_f (by decide) (br_f (by decide) ⟨1, br_t (by decide) (br_t rfl H)⟩)
  · subst e
    exact br_t rfl H
theorem tv_m49 {post : Int32 → St2 → Prop} {w t V : Nat} {o : Nat → Nat} {lg oc fv ov : Int32} {a1 a2 a3 a4 a5 a6 a7 a8 a9 a10 a11 a12 a13 a14 : Nat → Int32} (hw : w < 2) (ht : t < 4) (hV : V < 8) (ho : ∀ i, i < 4 → o i < 8) (h1 : a1 (w * 9) = nI (4 + t)) (h6 : a6 0 = nI (w * 9)) (h7 : a7 0 = nI V) (h13 : ∀ i, i < 4 → a13 i = nI (o i)) (H : ∀ hd a8, post (if o t &&& V = 0 then 0 else 1) (lg, oc, 1, hd, fv, ov, a1, a2, a3, a4, a5, a6, a7, a8, a9, a10, a11, a12, a13, a14)) : ∃ n, wX_meets_49 post lg oc 1 0 fv ov n 0 a1 a2 a3 a4 a5 a6 a7 a8 a9 a10 a11 a12 a13 a14 := by
  refine pk_loop (fun n i s => wX_meets_49 post lg oc 1 0 fv ov n (nI i) a1 a2 a3 a4 a5 a6 a7 s a9 a10 a11 a12 a13 a14) (fun i s => ∀ j, j < i → s j = nI (o j)) 4 0 a8 (by omega) (fun j hj => absurd hj (by omega)) ?_ ?_
  · intro n s hs
    refine pk_le 4 4 (fun _ => ?_) (fun z => absurd z (by omega))
    refine tv_goOn hw ht (ho t ht) hV h1 h6 h7 (hs t ht) (fun hd a8 => tv_m81 ?_ (H hd a8))
    by_cases hz : o t &&& V = 0
    · rw [if_pos hz]; exact Or.inl rfl
    · rw [if_neg hz]; exact Or.inr rfl
  · intro n i s hi hs hw'
    refine pk_le 4 i (fun z => absurd z (by omega)) (fun _ => ⟨pk_in i 4 hi, pk_in i 4 hi, nm_e (nm_r (nI_1 i) (hw' _ ?_))⟩)
    intro j hj
    rw [nI_clamp (by omega), vp_nar_byte, h13 i hi, tv_b8 _ (ho i hi)]
    by_cases e : j = i
    · rw [e, pk_us]
    · rw [pk_un e]; exact hs j (by omega)
theorem tv_meets {post : Int32 → St2 → Prop} {w t V : Nat} {o : Nat → Nat} {u : St2} (hw : w < 2) (ht : t < 4) (hV : V < 7) (ho : ∀ i, i < 4 → o i < 8) (S : tv_S w t V o u) (H : ∀ u', tv_S w t V o u' → post (if o t &&& V = 0 then 0 else 1) u') : wpX_meets post u := by
  obtain ⟨lg, oc, de, hd, fv, ov, a1, a2, a3, a4, a5, a6, a7, a8, a9, a10, a11, a12, a13, a14⟩ := u
  obtain ⟨S1, S2, S3, S4, S5⟩ := S
  have hb := tv_b8 V (by omega)
  have hne : ¬ nI V = 7 := fun e => absurd ((nI_eq (b := 7) (by omega) (by omega)).mp e) (by omega)
  have : w = 0 ∨ w = 1 := by omega
  rcases this with e | e
  · subst e
    have S3' : fv = nI V := S3
    have S4' : ov = 7 := S4
    subst S3' S4'
    refine br_f hne (br_f (by decide) ⟨pk_in 0 32 (by omega), nm_e ⟨pk_in 0 32 (by omega), nm_e (nm_r (e' := 1) rfl (br_t rfl ?_))⟩⟩)
    exact tv_m49 (w := 0) (t := t) (V := V) (o := o) hw ht (by omega) ho S1 (pk_us.trans rfl) (pk_us.trans hb) S5 (fun hd' a8' => H _ ⟨S1, S2, rfl, rfl, S5⟩)
  · subst e
    have S3' : fv = 7 := S3
    have S4' : ov = nI V := S4
    subst S3' S4'
    refine br_t rfl (br_f hne (br_f (by decide) ⟨pk_in 0 32 (by omega), nm_e ⟨pk_in 0 32 (by omega), nm_e (nm_r (e' := 1) rfl ?_)⟩⟩))
    exact tv_m49 (w := 1) (t := t) (V := V) (o := o) hw ht (by omega) ho S1 (pk_us.trans rfl) (pk_us.trans hb) S5 (fun hd' a8' => H _ ⟨S1, S2, rfl, rfl, S5⟩)
end
section
/-! leastValue, least -/
theorem tv_lv9 {post : Int32 → St2 → Prop} {w t V j q k : Nat} {o : Nat → Nat} (hw : w < 2) (ht : t < 4) (hV : V < 7) (hj : j < 4) (ho : ∀ i, i < 4 → o i < 8) (hq : o j = q) (hk : k < 3) (hh : tv_hit o j t V k = true) (hn : ∀ i, i < k → ¬ tv_hit o j t V i = true) (H : ∀ u', tv_S w t V (tv_up o j (2 ^ k)) u' → post (nI k) u') : ∀ (c i x : Nat) {lg oc de hd fv ov : Int32} {a1 a2 a3 a4 a5 a6 a7 a8 a9 a10 a11 a12 a13 a14 : Nat → Int32}, i + c = 3 → i ≤ k → tv_S w t V (tv_up o j x) (lg, oc, de, hd, fv, ov, a1, a2, a3, a4, a5, a6, a7, a8, a9, a10, a11, a12, a13, a14) → wX_leastValue_9 post (nI j) (nI q) (c + 1) (nI i) lg oc de hd fv ov a1 a2 a3 a4 a5 a6 a7 a8 a9 a10 a11 a12 a13 a14 := by
  intro c
  induction c with
  | zero => intro i x lg oc de hd fv ov a1 a2 a3 a4 a5 a6 a7 a8 a9 a10 a11 a12 a13 a14 hi hik S; omega
  | succ c ih =>
    intro i x lg oc de hd fv ov a1 a2 a3 a4 a5 a6 a7 a8 a9 a10 a11 a12 a13 a14 hi hik S
    have hq8 : q < 8 := hq ▸ ho j hj
    have hb := tv_bi q hq8 i (by omega)
    refine br_f (nI_ge (b := 3) (by omega) (by omega)) (br_c (fun z => ?_) (fun z => ?_))
    · have hni : ¬ tv_hit o j t V i = true := by
        intro hx
        unfold tv_hit at hx
        rw [hq] at hx
        have := (Bool.and_eq_true_iff.mp hx).1
        exact absurd (of_decide_eq_true this) (hb.mp z)
      have hlt : i < k := by
        rcases Nat.lt_or_ge i k with g | g
        · exact g
        · have e : i = k := by omega
          rw [e] at hni; exact absurd hh hni
      exact nm_r (nI_1 i) (ih (i + 1) x (by omega) (by omega) S)
    · have hbit : q / 2 ^ i % 2 = 1 := Classical.byContradiction (fun g => z (hb.mpr g))
      have h2i := tv_p8 (k := i) (by omega)
      refine ⟨pk_in j 4 hj, nm_e ?_⟩
      have S' : tv_S w t V (tv_up o j (2 ^ i)) (lg, oc, de, hd, fv, ov, a1, a2, a3, a4, a5, a6, a7, a8, a9, a10, a11, a12, upd a13 (nI j).toNatClampNeg (((1 : Int32) <<< (nI i &&& 31)).toInt8.toInt32), a14) := by
        obtain ⟨S1, S2, S3, S4, S5⟩ := S
        refine ⟨S1, S2, S3, S4, fun l hl => ?_⟩
        rw [nI_clamp (by omega), tv_sh i (by omega), tv_b8 _ h2i]
        by_cases e : l = j
        · rw [e, pk_us, tv_ups]
        · rw [pk_un e, tv_upn e, S5 l hl, tv_upn e]
      refine tv_meets hw ht hV (tv_up8 ho h2i) S' (fun u' Su => ?_)
      clear S S'
      obtain ⟨lg, oc, de, hd, fv, ov, a1, a2, a3, a4, a5, a6, a7, a8, a9, a10, a11, a12, a13, a14⟩ := u'
      by_cases hz : tv_up o j (2 ^ i) t &&& V = 0
      · rw [if_pos hz]
        have hni : ¬ tv_hit o j t V i = true := by
          intro hx
          unfold tv_hit at hx
          have := (Bool.and_eq_true_iff.mp hx).2
          exact absurd hz (of_decide_eq_true this)
        have hlt : i < k := by
          rcases Nat.lt_or_ge i k with g | g
          · exact g
          · have e : i = k := by omega
            rw [e] at hni; exact absurd hh hni
        exact br_t rfl (nm_r (nI_1 i) (ih (i + 1) (2 ^ i) (by omega) (by omega) Su))
      · rw [if_neg hz]
        have hhi : tv_hit o j t V i = true := by
          unfold tv_hit
          rw [hq]
          exact Bool.and_eq_true_iff.mpr ⟨decide_eq_true hbit, decide_eq_true hz⟩
        have e : i = k := by
          rcases Nat.lt_or_ge i k with g | g
          · exact absurd hhi (hn i g)
          · omega
        subst e
        exact br_f (by decide) (H _ Su)
theorem tv_leastV {post : Int32 → St2 → Prop} {w t V j : Nat} {o : Nat → Nat} {u : St2} (hw : w < 2) (ht : t < 4) (hV : V < 7) (hj : j < 4) (ho : ∀ i, i < 4 → o i < 8) (hh : tv_ok o j t V = true) (S : tv_S w t V o u) (H : ∀ u', tv_S w t V (tv_n o j t V) u' → post (nI (tv_k o j t V)) u') : wpX_leastValue post u (nI j) := by
  obtain ⟨lg, oc, de, hd, fv, ov, a1, a2, a3, a4, a5, a6, a7, a8, a9, a10, a11, a12, a13, a14⟩ := u
  refine ⟨pk_in j 4 hj, nm_r (e' := nI (o j)) ?_ ⟨4, ?_⟩⟩
  · rw [nI_clamp (by omega)]; exact S.2.2.2.2 j hj
  · exact tv_lv9 hw ht hV hj ho rfl (tv_k3 o j t V) hh (tv_kn o j t V) H 3 0 (o j) (by omega) (by omega) (by rw [tv_upi]; exact S)
theorem tv_leastN {post : Int32 → St2 → Prop} {w t V : Nat} {o : Nat → Nat} {u : St2} (hw : w < 2) (ht : t < 4) (hV : V < 7) (ho : ∀ i, i < 4 → o i < 8) (hz : o t &&& V = 0) (S : tv_S w t V o u) (H : ∀ u', tv_L w t u' → post (-1) u') : wpX_least post u := by
  obtain ⟨lg, oc, de, hd, fv, ov, a1, a2, a3, a4, a5, a6, a7, a8, a9, a10, a11, a12, a13, a14⟩ := u
  refine tv_meets hw ht hV ho S (fun u' Su => ?_)
  rw [if_pos hz]
  clear S
  obtain ⟨lg, oc, de, hd, fv, ov, a1, a2, a3, a4, a5, a6, a7, a8, a9, a10, a11, a12, a13, a14⟩ := u'
  exact br_t rfl (H _ (tv_SL Su))
theorem tv_nx (a b : Nat) : (3 : Int32) * nI a + nI b = nI (3 * a + b) := by
  rw [show (3 : Int32) = nI 3 from rfl, pk_mul, nI_add]
theorem tv_leastY {post : Int32 → St2 → Prop} {w t V : Nat} {o : Nat → Nat} {u : St2} (hw : w < 2) (ht : t < 4) (hV : V < 7) (ho : ∀ i, i < 4 → o i < 8) (hz : ¬ o t &&& V = 0) (hok : tv_oks o t V = true) (S : tv_S w t V o u) (H : ∀ u', tv_L w t u' → post (nI (tv_num o t V)) u') : wpX_least post u := by
  obtain ⟨hok, k0⟩ := Bool.and_eq_true_iff.mp hok
  obtain ⟨hok, k1⟩ := Bool.and_eq_true_iff.mp hok
  obtain ⟨k3, k2⟩ := Bool.and_eq_true_iff.mp hok
  have o3 : ∀ i, i < 4 → tv_o3 o t V i < 8 := tv_n8 ho
  have o2 : ∀ i, i < 4 → tv_o2 o t V i < 8 := tv_n8 o3
  have o1 : ∀ i, i < 4 → tv_o1 o t V i < 8 := tv_n8 o2
  obtain ⟨lg, oc, de, hd, fv, ov, a1, a2, a3, a4, a5, a6, a7, a8, a9, a10, a11, a12, a13, a14⟩ := u
  refine tv_meets hw ht hV ho S (fun u' Su => ?_)
  rw [if_neg hz]
  clear S
  obtain ⟨lg, oc, de, hd, fv, ov, a1, a2, a3, a4, a5, a6, a7, a8, a9, a10, a11, a12, a13, a14⟩ := u'
  refine br_f (by decide) ⟨5, ?_⟩
  refine br_f (by decide) (tv_leastV (j := 3) hw ht hV (by omega) ho k3 Su (fun u' S3 => ?_))
  clear Su
  obtain ⟨lg, oc, de, hd, fv, ov, a1, a2, a3, a4, a5, a6, a7, a8, a9, a10, a11, a12, a13, a14⟩ := u'
  refine nm_r (tv_nx 0 _) (nm_r (e' := nI 2) rfl (br_f (by decide) (tv_leastV (j := 2) hw ht hV (by omega) o3 k2 S3 (fun u' S2 => ?_))))
  clear S3
  obtain ⟨lg, oc, de, hd, fv, ov, a1, a2, a3, a4, a5, a6, a7, a8, a9, a10, a11, a12, a13, a14⟩ := u'
  refine nm_r (tv_nx _ _) (nm_r (e' := nI 1) rfl (br_f (by decide) (tv_leastV (j := 1) hw ht hV (by omega) o2 k1 S2 (fun u' S1 => ?_))))
  clear S2
  obtain ⟨lg, oc, de, hd, fv, ov, a1, a2, a3, a4, a5, a6, a7, a8, a9, a10, a11, a12, a13, a14⟩ := u'
  refine nm_r (tv_nx _ _) (nm_r (e' := nI 0) rfl (br_f (by decide) (tv_leastV (j := 0) hw ht hV (by omega) o1 k0 S1 (fun u' S0 => ?_))))
  clear S1
  obtain ⟨lg, oc, de, hd, fv, ov, a1, a2, a3, a4, a5, a6, a7, a8, a9, a10, a11, a12, a13, a14⟩ := u'
  exact nm_r (tv_nx _ _) (nm_r (e' := -1) (by decide) (br_t (by decide) (H _ (tv_SL S0))))
theorem tv_least {post : Int32 → St2 → Prop} {w t V : Nat} {o : Nat → Nat} {u : St2} (hw : w < 2) (ht : t < 4) (hV : V < 7) (ho : ∀ i, i < 4 → o i < 8) (hok : o t &&& V = 0 ∨ tv_oks o t V = true) (S : tv_S w t V o u) (H : ∀ u', tv_L w t u' → post (tv_res o t V) u') : wpX_least post u := by
  unfold tv_res at H
  by_cases hz : o t &&& V = 0
  · rw [if_pos hz] at H
    exact tv_leastN hw ht hV ho hz S H
  · rw [if_neg hz] at H
    rcases hok with e | e
    · exact absurd e hz
    · exact tv_leastY hw ht hV ho hz e S H
end
section
/-! ask, askOne, find, findApart, value -/
theorem tv_ask12 {post : St2 → Prop} {lg oc de hd fv ov : Int32} {a1 a2 a3 a4 a5 a6 a7 a8 a9 a10 a11 a12 a13 a14 : Nat → Int32} (H : ∀ a13, (∀ i, i < 4 → a13 i = nI 7) → post (lg, oc, de, hd, fv, ov, a1, a2, a3, a4, a5, a6, a7, a8, a9, a10, a11, a12, a13, a14)) : ∃ n, wX_ask_12 post lg oc de hd fv ov n 0 a1 a2 a3 a4 a5 a6 a7 a8 a9 a10 a11 a12 a13 a14 := by
  refine pk_loop (fun n i s => wX_ask_12 post lg oc de hd fv ov n (nI i) a1 a2 a3 a4 a5 a6 a7 a8 a9 a10 a11 a12 s a14) (fun i s => ∀ j, j < i → s j = nI 7) 4 0 a13 (by omega) (fun j hj => absurd hj (by omega)) ?_ ?_
  · intro n s hs
    exact pk_le 4 4 (fun _ => H s hs) (fun z => absurd z (by omega))
  · intro n i s hi hs hw'
    refine pk_le 4 i (fun z => absurd z (by omega)) (fun _ => ⟨pk_in i 4 hi, nm_e (nm_r (nI_1 i) (hw' _ ?_))⟩)
    intro j hj
    rw [nI_clamp (by omega)]
    by_cases e : j = i
    · rw [e, pk_us]; rfl
    · rw [pk_un e]; exact hs j (by omega)
theorem tv_askOne {post : St2 → Prop} {w t V : Nat} {x : Int32} {u : St2} (hw : w < 2) (hx : x = nI V) (S : tv_L w t u) (H : ∀ u', tv_S w t V tv_7 u' → post u') : wpX_askOne post u (nI w) x := by
  obtain ⟨lg, oc, de, hd, fv, ov, a1, a2, a3, a4, a5, a6, a7, a8, a9, a10, a11, a12, a13, a14⟩ := u
  obtain ⟨S1, S2⟩ : a1 (w * 9) = nI (4 + t) ∧ a2 w = 1 := S
  subst hx
  have : w = 0 ∨ w = 1 := by omega
  rcases this with e | e
  · subst e
    exact br_t rfl (br_t rfl (tv_ask12 (fun a13 h => H (lg, oc, de, hd, nI V, 7, a1, a2, a3, a4, a5, a6, a7, a8, a9, a10, a11, a12, a13, a14) ⟨S1, S2, rfl, rfl, h⟩)))
  · subst e
    exact br_f (by decide) (br_f (by decide) (tv_ask12 (fun a13 h => H (lg, oc, de, hd, 7, nI V, a1, a2, a3, a4, a5, a6, a7, a8, a9, a10, a11, a12, a13, a14) ⟨S1, S2, rfl, rfl, h⟩)))
theorem tv_78 : ∀ i, i < 4 → tv_7 i < 8 := fun _ _ => by show 7 < 8; omega
theorem tv_p7 {k : Nat} (h : k < 3) : 2 ^ k < 7 ∧ 7 - 2 ^ k < 7 := by
  have : k = 0 ∨ k = 1 ∨ k = 2 := by omega
  rcases this with e | e | e <;> rw [e] <;> decide
/-- find, a letter and a value -/
theorem tv_findY {post : Int32 → St2 → Prop} {w t v : Nat} {u : St2} (hw : w < 2) (ht : t < 4) (hv : v < 3) (S : tv_L w t u) (H : ∀ u', tv_L w t u' → post (nI (v * 3 ^ t)) u') : wpX_find post u (nI w) (nI v) := by
  obtain ⟨T1, T2, T3⟩ := tv_t1 t ht v hv
  obtain ⟨lg, oc, de, hd, fv, ov, a1, a2, a3, a4, a5, a6, a7, a8, a9, a10, a11, a12, a13, a14⟩ := u
  refine br_f (nI_pos (by omega)) (br_f (nI_ge (b := 3) hv (by omega)) (br_f (by decide) (tv_compL hw ht S (fun u' S' => ?_))))
  clear S
  obtain ⟨lg, oc, de, hd, fv, ov, a1, a2, a3, a4, a5, a6, a7, a8, a9, a10, a11, a12, a13, a14⟩ := u'
  refine br_f (by decide) (tv_askOne hw (tv_sh v hv) S' (fun u' Q => ?_))
  clear S'
  obtain ⟨lg, oc, de, hd, fv, ov, a1, a2, a3, a4, a5, a6, a7, a8, a9, a10, a11, a12, a13, a14⟩ := u'
  refine tv_leastY hw ht (tv_p7 hv).1 tv_78 T1 T2 Q (fun u' S' => ?_)
  clear Q
  obtain ⟨lg, oc, de, hd, fv, ov, a1, a2, a3, a4, a5, a6, a7, a8, a9, a10, a11, a12, a13, a14⟩ := u'
  rw [T3]
  exact H _ S'
theorem tv_findN {post : Int32 → St2 → Prop} {u : St2} {p v : Int32} (hv : v < 0 ∨ 3 ≤ v) (H : post (-1) u) : wpX_find post u p v := by
  obtain ⟨lg, oc, de, hd, fv, ov, a1, a2, a3, a4, a5, a6, a7, a8, a9, a10, a11, a12, a13, a14⟩ := u
  refine br_c (fun _ => br_t rfl H) (fun z => br_c (fun _ => br_t rfl H) (fun z2 => ?_))
  rcases hv with h | h
  · exact absurd h z
  · exact absurd h z2
/-- one turn of findApart's loop -/
theorem tv_ap24 {post : Int32 → St2 → Prop} {w t l v n : Nat} {b : Int32} {lg oc de hd fv ov : Int32} {a1 a2 a3 a4 a5 a6 a7 a8 a9 a10 a11 a12 a13 a14 : Nat → Int32} (hw : w < 2) (ht : t < 4) (hl : l < 4) (hv : v < 3) (S : tv_L w t (lg, oc, de, hd, fv, ov, a1, a2, a3, a4, a5, a6, a7, a8, a9, a10, a11, a12, a13, a14)) (H : ∀ {lg oc de hd fv ov : Int32} {a1 a2 a3 a4 a5 a6 a7 a8 a9 a10 a11 a12 a13 a14 : Nat → Int32}, tv_L w t (lg, oc, de, hd, fv, ov, a1, a2, a3, a4, a5, a6, a7, a8, a9, a10, a11, a12, a13, a14) → wX_findApart_24 post (nI w) (nI l) n (tv_best b (tv_res (tv_up tv_7 l (2 ^ v)) t (7 - 2 ^ v))) (nI (v + 1)) lg oc de hd fv ov a1 a2 a3 a4 a5 a6 a7 a8 a9 a10 a11 a12 a13 a14) : wX_findApart_24 post (nI w) (nI l) (n + 1) b (nI v) lg oc de hd fv ov a1 a2 a3 a4 a5 a6 a7 a8 a9 a10 a11 a12 a13 a14 := by
  have h2 := tv_p8 hv
  refine br_f (nI_ge (b := 3) hv (by omega)) (tv_askOne hw (tv_no v hv) S (fun u' Q => ?_))
  clear S
  obtain ⟨lg, oc, de, hd, fv, ov, a1, a2, a3, a4, a5, a6, a7, a8, a9, a10, a11, a12, a13, a14⟩ := u'
  refine ⟨pk_in l 4 hl, nm_e ?_⟩
  have Q' : tv_S w t (7 - 2 ^ v) (tv_up tv_7 l (2 ^ v)) (lg, oc, de, hd, fv, ov, a1, a2, a3, a4, a5, a6, a7, a8, a9, a10, a11, a12, upd a13 (nI l).toNatClampNeg (((1 : Int32) <<< (nI v &&& 31)).toInt8.toInt32), a14) := by
    obtain ⟨S1, S2, S3, S4, S5⟩ := Q
    refine ⟨S1, S2, S3, S4, fun i hi => ?_⟩
    rw [nI_clamp (by omega), tv_sh v hv, tv_b8 _ h2]
    by_cases e : i = l
    · rw [e, pk_us, tv_ups]
    · rw [pk_un e, tv_upn e, S5 i hi]
  clear Q
  refine tv_least hw ht (tv_p7 hv).2 (tv_up8 tv_78 h2) (tv_t2 t ht l hl v hv) Q' (fun u' S' => ?_)
  clear Q'
  obtain ⟨lg, oc, de, hd, fv, ov, a1, a2, a3, a4, a5, a6, a7, a8, a9, a10, a11, a12, a13, a14⟩ := u'
  have H' := H S'
  unfold tv_best at H'
  refine br_c (fun z => ?_) (fun z => br_c (fun z2 => ?_) (fun z2 => br_c (fun z3 => ?_) (fun z3 => ?_)))
  · rw [if_pos z] at H'
    exact nm_r (nI_1 v) H'
  · rw [if_neg z, if_pos z2] at H'
    exact nm_r (nI_1 v) H'
  · rw [if_neg z, if_neg z2, if_pos z3] at H'
    exact nm_r (nI_1 v) H'
  · rw [if_neg z, if_neg z2, if_neg z3] at H'
    exact nm_r (nI_1 v) H'
theorem tv_apartY {post : Int32 → St2 → Prop} {w t l : Nat} {u : St2} (hw : w < 2) (ht : t < 4) (hl : l < 4) (S : tv_L w t u) (H : ∀ u', tv_L w t u' → post (if l = t then -1 else nI (min (3 ^ t) (3 ^ l))) u') : wpX_findApart post u (nI w) (nI l) := by
  obtain ⟨lg, oc, de, hd, fv, ov, a1, a2, a3, a4, a5, a6, a7, a8, a9, a10, a11, a12, a13, a14⟩ := u
  refine br_f (nI_pos (by omega)) (br_f (nI_ge (b := 4) hl (by omega)) (tv_compL hw ht S (fun u' S' => ?_)))
  clear S
  obtain ⟨lg, oc, de, hd, fv, ov, a1, a2, a3, a4, a5, a6, a7, a8, a9, a10, a11, a12, a13, a14⟩ := u'
  refine br_f (by decide) ⟨4, ?_⟩
  refine tv_ap24 (v := 0) hw ht hl (by omega) S' (fun S1 => tv_ap24 (v := 1) hw ht hl (by omega) S1 (fun S2 => tv_ap24 (v := 2) hw ht hl (by omega) S2 (fun S3 => ?_)))
  refine br_t (by decide) ?_
  have H' := H _ S3
  rw [← tv_t3 t ht l hl] at H'
  exact H'
theorem tv_apartN {post : Int32 → St2 → Prop} {u : St2} {p v : Int32} (hv : v < 0 ∨ 4 ≤ v) (H : post (-1) u) : wpX_findApart post u p v := by
  obtain ⟨lg, oc, de, hd, fv, ov, a1, a2, a3, a4, a5, a6, a7, a8, a9, a10, a11, a12, a13, a14⟩ := u
  refine br_c (fun _ => H) (fun z => br_c (fun _ => H) (fun z2 => ?_))
  rcases hv with h | h
  · exact absurd h z
  · exact absurd h z2
theorem tv_vOf {post : Int32 → Prop} {t a : Nat} (ht : t < 4) (ha : a ≤ 80) (H : post (nI (a / 3 ^ t % 3))) : wpX_valueOf post () (nI t) (nI a) := by
  have hle : ∀ i, a / 3 ^ i ≤ 80 := fun i => Nat.le_trans (Nat.div_le_self a (3 ^ i)) ha
  refine pk_loop (fun n i s => wX_valueOf_4 post (nI t) n s (nI i)) (fun i s => s = nI (a / 3 ^ i)) t 0 (nI a) (by omega) (by rw [Nat.pow_zero, Nat.div_one]) ?_ ?_
  · intro n s hs
    have := hle t
    refine pk_le t t (fun _ => ⟨by decide, ?_⟩) (fun z => absurd z (by omega))
    rw [hs, show (3 : Int32) = nI 3 from rfl, pk_rem (by omega) (by omega) (by omega)]
    exact H
  · intro n i s hi hs hw'
    have := hle i
    refine pk_le t i (fun z => absurd z (by omega)) (fun _ => ⟨by decide, nm_e (nm_r (nI_1 i) (hw' _ ?_))⟩)
    rw [hs, show (3 : Int32) = nI 3 from rfl, pk_div (by omega) (by omega) (by omega), Nat.div_div_eq_div_mul, ← Nat.pow_succ]
theorem tv_valueY {post : Int32 → St2 → Prop} {w t a : Nat} {u : St2} (hw : w < 2) (ht : t < 4) (ha : a ≤ 80) (S : tv_L w t u) (H : ∀ u', tv_L w t u' → post (nI (a / 3 ^ t % 3)) u') : wpX_value post u (nI w) (nI a) := by
  obtain ⟨lg, oc, de, hd, fv, ov, a1, a2, a3, a4, a5, a6, a7, a8, a9, a10, a11, a12, a13, a14⟩ := u
  refine br_f (nI_pos (by omega)) (br_f (nI_nlt (a := 80) ha (by omega)) (tv_compL hw ht S (fun u' S' => ?_)))
  clear S
  obtain ⟨lg, oc, de, hd, fv, ov, a1, a2, a3, a4, a5, a6, a7, a8, a9, a10, a11, a12, a13, a14⟩ := u'
  obtain ⟨S1, S2⟩ : a1 (w * 9) = nI (4 + t) ∧ a2 w = 1 := S'
  have h3 : a / 3 ^ t % 3 < 8 := by have := Nat.mod_lt (a / 3 ^ t) (show 0 < 3 by omega); omega
  refine br_f (by decide) ⟨pk_in w 2 hw, nm_r (e' := 0) ?_ ⟨2, ?_⟩⟩
  · rw [nI_clamp (by omega), S2]; decide
  · refine br_f (by decide) (nm_r (e' := nI (w * 9)) (tv_9 0 rfl) ⟨pk_in (w * 9) 18 (by omega), nm_r (e' := nI (4 + t)) ?_ (br_f (nI_nlt (b := 4) (by omega) (by omega)) ?_)⟩)
    · rw [nI_clamp (by omega)]; exact S1
    · rw [show nI (4 + t) - 4 = nI t by rw [show (4 : Int32) = nI 4 from rfl, pk_sub (by omega), Nat.add_sub_cancel_left]]
      refine tv_vOf ht ha ⟨pk_in (w * 9) 18 (by omega), nm_e (nm_r (e' := -1) (by decide) (br_t (by decide) ?_))⟩
      have e9 : nI w * 9 = nI (w * 9) := by rw [show (9 : Int32) = nI 9 from rfl, pk_mul]
      rw [e9, nI_clamp (show w * 9 < 2 ^ 31 by omega), pk_us, tv_b8 _ h3]
      exact ⟨pk_in (w * 9) 18 (by omega), H _ ⟨S1, S2⟩⟩
theorem tv_valueN {post : Int32 → St2 → Prop} {u : St2} {p a : Int32} (hv : a < 0 ∨ 80 < a) (H : post (-1) u) : wpX_value post u p a := by
  obtain ⟨lg, oc, de, hd, fv, ov, a1, a2, a3, a4, a5, a6, a7, a8, a9, a10, a11, a12, a13, a14⟩ := u
  refine br_c (fun _ => H) (fun z => br_c (fun _ => H) (fun z2 => ?_))
  rcases hv with h | h
  · exact absurd h z
  · exact absurd h z2
/-! a formula that isn't complete: I holds of the state and stays -/
theorem tv_value0 {post : Int32 → St2 → Prop} {u : St2} {p a : Int32} {I : St2 → Prop} (C : ∀ (post : Int32 → St2 → Prop) (u : St2), I u → (∀ u', I u' → post 0 u') → wpX_complete post u p) (S : I u) (H : ∀ u', I u' → post (-1) u') : wpX_value post u p a := by
  obtain ⟨lg, oc, de, hd, fv, ov, a1, a2, a3, a4, a5, a6, a7, a8, a9, a10, a11, a12, a13, a14⟩ := u
  refine br_c (fun _ => H _ S) (fun _ => br_c (fun _ => H _ S) (fun _ => C _ _ S (fun u' S' => ?_)))
  clear S
  obtain ⟨lg, oc, de, hd, fv, ov, a1, a2, a3, a4, a5, a6, a7, a8, a9, a10, a11, a12, a13, a14⟩ := u'
  exact br_t rfl (H _ S')
theorem tv_find0 {post : Int32 → St2 → Prop} {u : St2} {p a : Int32} {I : St2 → Prop} (C : ∀ (post : Int32 → St2 → Prop) (u : St2), I u → (∀ u', I u' → post 0 u') → wpX_complete post u p) (S : I u) (H : ∀ u', I u' → post (-1) u') : wpX_find post u p a := by
  obtain ⟨lg, oc, de, hd, fv, ov, a1, a2, a3, a4, a5, a6, a7, a8, a9, a10, a11, a12, a13, a14⟩ := u
  refine br_c (fun _ => br_t rfl (H _ S)) (fun _ => br_c (fun _ => br_t rfl (H _ S)) (fun _ => br_f (by decide) (C _ _ S (fun u' S' => ?_))))
  clear S
  obtain ⟨lg, oc, de, hd, fv, ov, a1, a2, a3, a4, a5, a6, a7, a8, a9, a10, a11, a12, a13, a14⟩ := u'
  exact br_t rfl (H _ S')
theorem tv_apart0 {post : Int32 → St2 → Prop} {u : St2} {p a : Int32} {I : St2 → Prop} (C : ∀ (post : Int32 → St2 → Prop) (u : St2), I u → (∀ u', I u' → post 0 u') → wpX_complete post u p) (S : I u) (H : ∀ u', I u' → post (-1) u') : wpX_findApart post u p a := by
  obtain ⟨lg, oc, de, hd, fv, ov, a1, a2, a3, a4, a5, a6, a7, a8, a9, a10, a11, a12, a13, a14⟩ := u
  refine br_c (fun _ => H _ S) (fun _ => br_c (fun _ => H _ S) (fun _ => C _ _ S (fun u' S' => ?_)))
  clear S
  obtain ⟨lg, oc, de, hd, fv, ov, a1, a2, a3, a4, a5, a6, a7, a8, a9, a10, a11, a12, a13, a14⟩ := u'
  exact br_t rfl (H _ S')
end
section
/-! the law's checks -/
theorem tv_269N {post : Int32 → St0 → Prop} {mc ms kc ks : Nat} {x3 x4 x6 x11 x13 x15 x19 z : Int32} (h : (x13 = 0 ∧ x6 = -1 ∧ x11 = -1) ∨ (x13 = 1 ∧ x6 = 1 ∧ x11 = 2)) (H : post 1 ()) : wL_lawOf_269 post mc ms x3 x4 x6 0 (-1) (-1) (-1) x11 x13 0 x15 0 0 0 x19 z kc ks := by
  rcases h with ⟨e1, e2, e3⟩ | ⟨e1, e2, e3⟩ <;> subst e1 e2 e3
  · exact br_t rfl (br_t rfl (br_t rfl (br_t rfl (br_t rfl (br_t rfl (br_t rfl (br_t rfl (br_t rfl (br_t rfl (br_t rfl H))))))))))
  · exact br_f (by decide) (br_t rfl (br_t rfl (br_t rfl (br_t rfl (br_t rfl (br_t rfl (br_t rfl (br_t rfl (br_f (by decide) (br_t rfl (br_t rfl H)))))))))))
theorem tv_151N {post : Int32 → St0 → Prop} {mc ms kc ks : Nat} {x3 x4 x6 x11 x13 z : Int32} (h : (x13 = 0 ∧ x6 = -1 ∧ x11 = -1) ∨ (x13 = 1 ∧ x6 = 1 ∧ x11 = 2)) (H : post 1 ()) : wL_lawOf_151 post mc ms x3 x4 x6 0 (-1) (-1) (-1) x11 x13 0 z kc ks := by
  have g : ∀ y, wL_lawOf_253 post mc ms x3 x4 x6 0 (-1) (-1) (-1) x11 x13 0 z 0 0 0 y kc ks := fun y => br_c (fun _ => tv_269N h H) (fun _ => tv_269N h H)
  exact br_t rfl (br_t rfl (br_t rfl (br_c (fun _ => g 1) (fun _ => br_c (fun _ => g 3) (fun _ => br_c (fun _ => g 9) (fun _ => g 27))))))
theorem tv_118N {post : Int32 → St0 → Prop} {mc ms kc ks : Nat} {x2 x3 x4 x6 x11 x13 : Int32} (h : (x13 = 0 ∧ x6 = -1 ∧ x11 = -1) ∨ (x13 = 1 ∧ x6 = 1 ∧ x11 = 2)) (H : post 1 ()) : wL_lawOf_118 post mc ms x2 x3 x4 x6 0 (-1) (-1) (-1) x11 x13 0 kc ks :=
  br_c (fun _ => tv_151N h H) (fun _ => br_c (fun _ => tv_151N h H) (fun _ => br_c (fun _ => tv_151N h H) (fun _ => tv_151N h H)))
theorem tv_269L {post : Int32 → St0 → Prop} {mc ms kc ks : Nat} {x3 x4 r8 r9 r10 x15 x16 x17 x18 x19 z : Int32} (h8 : (x16 = 0 → r8 = -1) ∧ (¬ x16 = 0 → ¬ x15 = 0 ∧ r8 = (x3 / x15) - (x3 / x15) / 3 * 3)) (h9 : (x17 = 0 → r9 = -1) ∧ (¬ x17 = 0 → r9 = x4 * x15)) (h10 : (x18 = 0 → r10 = -1) ∧ (¬ x18 = 0 → (x19 = x15 → r10 = -1) ∧ (¬ x19 = x15 → r10 = z))) (H : post 1 ()) : wL_lawOf_269 post mc ms x3 x4 1 1 r8 r9 r10 (-1) 1 1 x15 x16 x17 x18 x19 z kc ks := by
  have g352 : ∀ y, r10 = y → wL_lawOf_352 post mc ms (-1) 1 1 y r10 kc ks := fun y e => br_t e (br_f (by decide) (br_f (by decide) (br_t rfl H)))
  have g329 : ∀ y, r9 = y → wL_lawOf_329 post mc ms r10 (-1) 1 1 x15 x18 x19 z y r9 kc ks := fun y e => br_t e (br_c (fun h => g352 _ (h10.1 h)) (fun h => br_c (fun h' => g352 _ ((h10.2 h).1 h')) (fun h' => g352 _ ((h10.2 h).2 h'))))
  have g310 : ∀ y, r8 = y → wL_lawOf_310 post mc ms x4 r9 r10 (-1) 1 1 x15 x17 x18 x19 z y r8 kc ks := fun y e => br_t e (br_c (fun h => g329 _ (h9.1 h)) (fun h => g329 _ (h9.2 h)))
  exact br_f (by decide) (br_t rfl (br_t rfl (br_c (fun h => g310 _ (h8.1 h)) (fun h => ⟨(h8.2 h).1, by decide, g310 _ (h8.2 h).2⟩))))
theorem tv_tab1 : ∀ t, t < 4 → ∀ v, v < 4 → (nI (3 ^ v) = nI (3 ^ t) → v = t) ∧ (v = t → nI (3 ^ v) = nI (3 ^ t)) ∧ (if nI (3 ^ v) ≤ nI (3 ^ t) then nI (3 ^ v) else nI (3 ^ t)) = nI (min (3 ^ t) (3 ^ v)) := by decide +kernel
theorem tv_253L {post : Int32 → St0 → Prop} {mc ms kc ks : Nat} {x3 x4 r8 r9 r10 x15 x16 x17 x18 z : Int32} (h8 : (x16 = 0 → r8 = -1) ∧ (¬ x16 = 0 → ¬ x15 = 0 ∧ r8 = (x3 / x15) - (x3 / x15) / 3 * 3)) (h9 : (x17 = 0 → r9 = -1) ∧ (¬ x17 = 0 → r9 = x4 * x15)) (h10 : (x18 = 0 → r10 = -1) ∧ (¬ x18 = 0 → (z = x15 → r10 = -1) ∧ (¬ z = x15 → r10 = if z ≤ x15 then z else x15))) (H : post 1 ()) : wL_lawOf_253 post mc ms x3 x4 1 1 r8 r9 r10 (-1) 1 1 x15 x16 x17 x18 z kc ks := by
  refine br_c (fun h => tv_269L h8 h9 ?_ H) (fun h => tv_269L h8 h9 ?_ H)
  · rw [if_pos h] at h10; exact h10
  · rw [if_neg h] at h10; exact h10
/-- what isL and findApart say -/
def tv_hL (t : Nat) (x4 r10 x18 : Int32) : Prop := (x18 = 0 ∧ r10 = -1) ∨ (x18 = 1 ∧ ∃ v, v < 4 ∧ x4 = nI v ∧ r10 = if v = t then -1 else nI (min (3 ^ t) (3 ^ v)))
theorem tv_219L {post : Int32 → St0 → Prop} {mc ms kc ks t : Nat} {x3 x4 r8 r9 r10 x16 x17 x18 : Int32} (ht : t < 4) (h8 : (x16 = 0 → r8 = -1) ∧ (¬ x16 = 0 → ¬ nI (3 ^ t) = 0 ∧ r8 = (x3 / nI (3 ^ t)) - (x3 / nI (3 ^ t)) / 3 * 3)) (h9 : (x17 = 0 → r9 = -1) ∧ (¬ x17 = 0 → r9 = x4 * nI (3 ^ t))) (h10 : tv_hL t x4 r10 x18) (H : post 1 ()) : wL_lawOf_219 post mc ms x3 x4 1 1 r8 r9 r10 (-1) 1 1 (nI (3 ^ t)) x16 x17 x18 kc ks := by
  rcases h10 with ⟨e1, e2⟩ | ⟨e1, v, hv, e2, e3⟩
  · have g : ∀ y, wL_lawOf_253 post mc ms x3 x4 1 1 r8 r9 r10 (-1) 1 1 (nI (3 ^ t)) x16 x17 x18 y kc ks := fun y => tv_253L h8 h9 ⟨fun _ => e2, fun n => absurd e1 n⟩ H
    exact br_c (fun _ => g 1) (fun _ => br_c (fun _ => g 3) (fun _ => br_c (fun _ => g 9) (fun _ => g 27)))
  · have g : wL_lawOf_253 post mc ms x3 x4 1 1 r8 r9 r10 (-1) 1 1 (nI (3 ^ t)) x16 x17 x18 (nI (3 ^ v)) kc ks := by
      obtain ⟨T1, T2, T3⟩ := tv_tab1 t ht v hv
      refine tv_253L h8 h9 ⟨fun n => ?_, fun _ => ⟨fun e => ?_, fun e => ?_⟩⟩ H
      · rw [e1] at n; exact absurd n (by decide)
      · rw [e3, if_pos (T1 e)]
      · rw [e3, if_neg (fun z => e (T2 z)), T3]
    have : v = 0 ∨ v = 1 ∨ v = 2 ∨ v = 3 := by omega
    subst e2
    rcases this with e | e | e | e <;> subst e
    · exact br_t rfl g
    · exact br_f (by decide) (br_t rfl g)
    · exact br_f (by decide) (br_f (by decide) (br_t rfl g))
    · exact br_f (by decide) (br_f (by decide) (br_f (by decide) g))
/-- what the answers to v are: find r9, findApart r10 -/
def tv_h4 (t : Nat) (x4 r9 r10 : Int32) : Prop := ((x4 < 0 ∨ 4 ≤ x4) ∧ r9 = -1 ∧ r10 = -1) ∨ (∃ v, v < 4 ∧ x4 = nI v ∧ (if v < 3 then r9 = nI (v * 3 ^ t) else r9 = -1) ∧ r10 = if v = t then -1 else nI (min (3 ^ t) (3 ^ v)))
theorem tv_34 {x : Int32} (h : 4 ≤ x) : 3 < x := by
  have h' := Int32.le_iff_toInt_le.mp h
  rw [show (4 : Int32).toInt = 4 from rfl] at h'
  refine Int32.lt_iff_toInt_lt.mpr ?_
  rw [show (3 : Int32).toInt = 3 from rfl]
  omega
theorem tv_24 {x : Int32} (h : 4 ≤ x) : 2 < x := by
  have h' := Int32.le_iff_toInt_le.mp h
  rw [show (4 : Int32).toInt = 4 from rfl] at h'
  refine Int32.lt_iff_toInt_lt.mpr ?_
  rw [show (2 : Int32).toInt = 2 from rfl]
  omega
theorem tv_173L {post : Int32 → St0 → Prop} {mc ms kc ks t : Nat} {x3 x4 r8 r9 r10 x16 : Int32} (ht : t < 4) (h8 : (x16 = 0 → r8 = -1) ∧ (¬ x16 = 0 → ¬ nI (3 ^ t) = 0 ∧ r8 = (x3 / nI (3 ^ t)) - (x3 / nI (3 ^ t)) / 3 * 3)) (h : tv_h4 t x4 r9 r10) (H : post 1 ()) : wL_lawOf_173 post mc ms x3 x4 1 1 r8 r9 r10 (-1) 1 1 (nI (3 ^ t)) x16 kc ks := by
  rcases h with ⟨hx, e9, e10⟩ | ⟨v, hv, e, e9, e10⟩
  · have g : wL_lawOf_219 post mc ms x3 x4 1 1 r8 r9 r10 (-1) 1 1 (nI (3 ^ t)) x16 0 0 kc ks := tv_219L ht h8 ⟨fun _ => e9, fun n => absurd rfl n⟩ (Or.inl ⟨rfl, e10⟩) H
    have g196 : wL_lawOf_196 post mc ms x3 x4 1 1 r8 r9 r10 (-1) 1 1 (nI (3 ^ t)) x16 0 kc ks := by
      refine br_f (by decide) (br_c (fun _ => g) (fun n => br_t ?_ g))
      rcases hx with hx | hx
      · exact absurd hx n
      · exact tv_34 hx
    refine br_f (by decide) (br_c (fun _ => g196) (fun n => br_t ?_ g196))
    rcases hx with hx | hx
    · exact absurd hx n
    · exact tv_24 hx
  · have g : ∀ y, ((y = 0 → r9 = -1) ∧ (¬ y = 0 → r9 = x4 * nI (3 ^ t))) → wL_lawOf_196 post mc ms x3 x4 1 1 r8 r9 r10 (-1) 1 1 (nI (3 ^ t)) x16 y kc ks := by
      intro y hy
      have g219 : wL_lawOf_219 post mc ms x3 x4 1 1 r8 r9 r10 (-1) 1 1 (nI (3 ^ t)) x16 y 1 kc ks := tv_219L ht h8 hy (Or.inr ⟨rfl, v, hv, e, e10⟩) H
      refine br_f (by decide) (br_f ?_ (br_f ?_ g219))
      · rw [e]; exact nI_pos (by omega)
      · rw [e]; exact nI_nlt (a := 3) (by omega) (by omega)
    refine br_f (by decide) (br_f ?_ ?_)
    · rw [e]; exact nI_pos (by omega)
    · by_cases hv3 : v < 3
      · rw [if_pos hv3] at e9
        refine br_f ?_ (g 1 ⟨fun n => absurd n (by decide), fun _ => ?_⟩)
        · rw [e]; exact nI_nlt (a := 2) (by omega) (by omega)
        · rw [e9, e, pk_mul]
      · rw [if_neg hv3] at e9
        refine br_t ?_ (g 0 ⟨fun _ => e9, fun n => absurd rfl n⟩)
        rw [e]; exact nI_lt (a := 2) (by omega) (by omega)
/-- what the answer to a is: value r8 -/
def tv_h3 (t : Nat) (x3 r8 : Int32) : Prop := ((x3 < 0 ∨ 80 < x3) ∧ r8 = -1) ∨ (∃ a, a ≤ 80 ∧ x3 = nI a ∧ r8 = nI (a / 3 ^ t % 3))
theorem tv_p3 {t : Nat} (ht : t < 4) : 0 < 3 ^ t ∧ 3 ^ t ≤ 27 := by
  have : t = 0 ∨ t = 1 ∨ t = 2 ∨ t = 3 := by omega
  rcases this with e | e | e | e <;> rw [e] <;> decide
theorem tv_151L {post : Int32 → St0 → Prop} {mc ms kc ks t : Nat} {x3 x4 r8 r9 r10 : Int32} (ht : t < 4) (h3 : tv_h3 t x3 r8) (h4 : tv_h4 t x4 r9 r10) (H : post 1 ()) : wL_lawOf_151 post mc ms x3 x4 1 1 r8 r9 r10 (-1) 1 1 (nI (3 ^ t)) kc ks := by
  rcases h3 with ⟨hx, e8⟩ | ⟨a, ha, e, e8⟩
  · have g : wL_lawOf_173 post mc ms x3 x4 1 1 r8 r9 r10 (-1) 1 1 (nI (3 ^ t)) 0 kc ks := tv_173L ht ⟨fun _ => e8, fun n => absurd rfl n⟩ h4 H
    refine br_f (by decide) (br_c (fun _ => g) (fun n => br_t ?_ g))
    rcases hx with hx | hx
    · exact absurd hx n
    · exact hx
  · obtain ⟨p0, p1⟩ := tv_p3 ht
    have hd : a / 3 ^ t ≤ a := Nat.div_le_self _ _
    refine br_f (by decide) (br_f ?_ (br_f ?_ (tv_173L ht ⟨fun n => absurd n (by decide), fun _ => ⟨nI_ne0 p0 (by omega), ?_⟩⟩ h4 H)))
    · rw [e]; exact nI_pos (by omega)
    · rw [e]; exact nI_nlt (a := 80) (by omega) (by omega)
    · rw [e8, e, pk_div (by omega) p0 (by omega), show (3 : Int32) = nI 3 from rfl, pk_rem (by omega) (by omega) (by omega)]
theorem tv_118L {post : Int32 → St0 → Prop} {mc ms kc ks t : Nat} {x3 x4 r8 r9 r10 : Int32} (ht : t < 4) (h3 : tv_h3 t x3 r8) (h4 : tv_h4 t x4 r9 r10) (H : post 1 ()) : wL_lawOf_118 post mc ms (nI (4 + t)) x3 x4 1 1 r8 r9 r10 (-1) 1 1 kc ks := by
  have g := tv_151L (post := post) (mc := mc) (ms := ms) (kc := kc) (ks := ks) ht h3 h4 H
  have : t = 0 ∨ t = 1 ∨ t = 2 ∨ t = 3 := by omega
  rcases this with e | e | e | e <;> subst e
  · exact br_t rfl g
  · exact br_f (by decide) (br_t rfl g)
  · exact br_f (by decide) (br_f (by decide) (br_t rfl g))
  · exact br_f (by decide) (br_f (by decide) (br_f (by decide) g))
end
section
/-! the law -/
def tv_zero (lg : Int32) : St2 := (lg, 0, 0, 0, 0, 0, (fun _ => 0), (fun _ => 0), (fun _ => 0), (fun _ => 0), (fun _ => 0), (fun _ => 0), (fun _ => 0), (fun _ => 0), (fun _ => 0), (fun _ => 0), (fun _ => 0), (fun _ => 0), (fun _ => 0), (fun _ => 0))
theorem tv_init {post : St2 → Prop} {p : Int32} (H : ∀ lg, post (tv_zero lg)) : wpX_init post 14 232 (0, 0, 0, 0, 0, 0) p :=
  ⟨by decide, by decide, by decide, by decide, by decide, by decide, by decide, by decide, by decide, by decide, by decide, by decide, by decide, by decide, by decide, by decide, by decide, by decide, by decide, by decide, by decide, by decide, by decide, by decide, by decide, by decide, by decide, by decide, br_c (fun _ => br_c (fun _ => H _) (fun _ => H _)) (fun _ => H _)⟩
theorem tv_is {p : Int32} {w : Nat} {X Y : Prop} (hw : w < 2) (hp : p = nI w) (h : X) : (p = 0 → X) ∧ (¬ p = 0 → ((p = 1 → X) ∧ (¬ p = 1 → Y))) := by
  have : w = 0 ∨ w = 1 := by omega
  rcases this with e | e
  · subst e; exact br_t hp h
  · subst e; exact br_c (fun _ => h) (fun _ => br_t hp h)
/-- no such formula -/
theorem tv_lawA {post : Int32 → St0 → Prop} {p0 p1 p2 p3 p4 : Int32} (h0 : ¬ p1 = 0) (h1 : ¬ p1 = 1) (H : post 1 ()) : wpL_lawOf post 15 252 () p0 p1 p2 p3 p4 := by
  refine ⟨by omega, by omega, 14, 232, by omega, by omega, tv_init (fun lg => ?_)⟩
  have C : ∀ (post : Int32 → St2 → Prop) (u : St2), (fun _ => True) u → (∀ u', (fun _ => True) u' → post 0 u') → wpX_complete post u p1 := fun post u _ h => tv_compN h0 h1 (h u trivial)
  refine tv_feedW h0 h1 (tv_compN h0 h1 (tv_value0 C trivial (fun u' _ => ?_)))
  obtain ⟨lg, oc, de, hd, fv, ov, a1, a2, a3, a4, a5, a6, a7, a8, a9, a10, a11, a12, a13, a14⟩ := u'
  refine tv_find0 C trivial (fun u' _ => ?_)
  obtain ⟨lg, oc, de, hd, fv, ov, a1, a2, a3, a4, a5, a6, a7, a8, a9, a10, a11, a12, a13, a14⟩ := u'
  refine tv_apart0 C trivial (fun u' _ => ?_)
  obtain ⟨lg, oc, de, hd, fv, ov, a1, a2, a3, a4, a5, a6, a7, a8, a9, a10, a11, a12, a13, a14⟩ := u'
  refine tv_feedW h0 h1 (br_f h0 (br_f h1 (br_t rfl (br_t rfl ?_))))
  exact tv_118N (Or.inl ⟨rfl, rfl, rfl⟩) H
/-- no such token -/
theorem tv_lawB {post : Int32 → St0 → Prop} {p0 p2 p3 p4 : Int32} {w : Nat} (hw : w < 2) (h2 : p2 < 0 ∨ 7 < p2) (H : post 1 ()) : wpL_lawOf post 15 252 () p0 (nI w) p2 p3 p4 := by
  refine ⟨by omega, by omega, 14, 232, by omega, by omega, tv_init (fun lg => ?_)⟩
  have C : ∀ (post : Int32 → St2 → Prop) (u : St2), tv_E w u → (∀ u', tv_E w u' → post 0 u') → wpX_complete post u (nI w) := fun post u S h => tv_compE hw S h
  refine tv_feedT hw h2 (tv_compE (u := tv_zero lg) hw rfl (fun u' S => ?_))
  obtain ⟨lg, oc, de, hd, fv, ov, a1, a2, a3, a4, a5, a6, a7, a8, a9, a10, a11, a12, a13, a14⟩ := u'
  refine tv_value0 C S (fun u' S => ?_)
  obtain ⟨lg, oc, de, hd, fv, ov, a1, a2, a3, a4, a5, a6, a7, a8, a9, a10, a11, a12, a13, a14⟩ := u'
  refine tv_find0 C S (fun u' S => ?_)
  obtain ⟨lg, oc, de, hd, fv, ov, a1, a2, a3, a4, a5, a6, a7, a8, a9, a10, a11, a12, a13, a14⟩ := u'
  refine tv_apart0 C S (fun u' S => ?_)
  obtain ⟨lg, oc, de, hd, fv, ov, a1, a2, a3, a4, a5, a6, a7, a8, a9, a10, a11, a12, a13, a14⟩ := u'
  refine tv_feedT hw h2 (tv_is hw rfl ?_)
  have g : wL_lawOf_118 post 15 252 p2 p3 p4 (-1) 0 (-1) (-1) (-1) (-1) 0 0 (1 + 14) (20 + 232) := tv_118N (Or.inl ⟨rfl, rfl, rfl⟩) H
  refine br_f (by decide) (br_c (fun _ => br_t rfl g) (fun n => br_t ?_ (br_t rfl g)))
  rcases h2 with h2 | h2
  · exact absurd h2 n
  · exact h2
/-- a token that isn't a letter -/
theorem tv_lawC {post : Int32 → St0 → Prop} {p0 p3 p4 : Int32} {w t : Nat} (hw : w < 2) (ht : t < 4) (H : post 1 ()) : wpL_lawOf post 15 252 () p0 (nI w) (nI t) p3 p4 := by
  refine ⟨by omega, by omega, 14, 232, by omega, by omega, tv_init (fun lg => ?_)⟩
  have C : ∀ (post : Int32 → St2 → Prop) (u : St2), tv_C w t u → (∀ u', tv_C w t u' → post 0 u') → wpX_complete post u (nI w) := fun post u S h => tv_compC hw ht S h
  refine tv_feed1 (u := tv_zero lg) hw (by omega) rfl (fun u' S => ?_)
  obtain ⟨lg, oc, de, hd, fv, ov, a1, a2, a3, a4, a5, a6, a7, a8, a9, a10, a11, a12, a13, a14⟩ := u'
  refine tv_compC hw ht S (fun u' S => ?_)
  obtain ⟨lg, oc, de, hd, fv, ov, a1, a2, a3, a4, a5, a6, a7, a8, a9, a10, a11, a12, a13, a14⟩ := u'
  refine tv_value0 C S (fun u' S => ?_)
  obtain ⟨lg, oc, de, hd, fv, ov, a1, a2, a3, a4, a5, a6, a7, a8, a9, a10, a11, a12, a13, a14⟩ := u'
  refine tv_find0 C S (fun u' S => ?_)
  obtain ⟨lg, oc, de, hd, fv, ov, a1, a2, a3, a4, a5, a6, a7, a8, a9, a10, a11, a12, a13, a14⟩ := u'
  refine tv_apart0 C S (fun u' S => ?_)
  obtain ⟨lg, oc, de, hd, fv, ov, a1, a2, a3, a4, a5, a6, a7, a8, a9, a10, a11, a12, a13, a14⟩ := u'
  refine tv_feed2 hw ht S (fun u' => ?_)
  obtain ⟨lg, oc, de, hd, fv, ov, a1, a2, a3, a4, a5, a6, a7, a8, a9, a10, a11, a12, a13, a14⟩ := u'
  refine tv_is hw rfl (br_f (by decide) (br_f (nI_pos (by omega)) (br_f (nI_nlt (a := 7) (by omega) (by omega)) (br_f (by decide) (br_t (nI_lt (b := 4) ht (by omega)) ?_)))))
  exact tv_118N (Or.inr ⟨rfl, rfl, rfl⟩) H
/-- value, find and findApart of a letter, all of it -/
theorem tv_value3 {post : Int32 → St2 → Prop} {w t : Nat} {a : Int32} {u : St2} (hw : w < 2) (ht : t < 4) (S : tv_L w t u) (H : ∀ r u', tv_h3 t a r → tv_L w t u' → post r u') : wpX_value post u (nI w) a := by
  by_cases h0 : a < 0
  · exact tv_valueN (Or.inl h0) (H _ _ (Or.inl ⟨Or.inl h0, rfl⟩) S)
  · by_cases h1 : 80 < a
    · exact tv_valueN (Or.inr h1) (H _ _ (Or.inl ⟨Or.inr h1, rfl⟩) S)
    · obtain ⟨j, hj, e⟩ := nI_of2 (M := 80) (n := 80) rfl h0 (Int32.not_lt.mp h1)
      subst e
      exact tv_valueY hw ht hj S (fun u' S' => H _ _ (Or.inr ⟨j, hj, rfl, rfl⟩) S')
theorem tv_ix (x : Int32) : (x < 0 ∨ 4 ≤ x) ∨ ∃ v, v < 4 ∧ x = nI v := by
  rcases pk_ix x (n := 4) (by omega) with h | h | h
  · exact Or.inl (Or.inl h)
  · exact Or.inl (Or.inr h)
  · exact Or.inr h
theorem tv_w3 {x : Int32} (h : 4 ≤ x) : 3 ≤ x := by
  have h' := Int32.le_iff_toInt_le.mp h
  rw [show (4 : Int32).toInt = 4 from rfl] at h'
  refine Int32.le_iff_toInt_le.mpr ?_
  rw [show (3 : Int32).toInt = 3 from rfl]
  omega
/-- a letter -/
theorem tv_lawL {post : Int32 → St0 → Prop} {p0 p3 p4 : Int32} {w t : Nat} (hw : w < 2) (ht : t < 4) (H : post 1 ()) : wpL_lawOf post 15 252 () p0 (nI w) (nI (4 + t)) p3 p4 := by
  refine ⟨by omega, by omega, 14, 232, by omega, by omega, tv_init (fun lg => ?_)⟩
  refine tv_feed1 (u := tv_zero lg) hw (by omega) rfl (fun u' S => ?_)
  obtain ⟨lg, oc, de, hd, fv, ov, a1, a2, a3, a4, a5, a6, a7, a8, a9, a10, a11, a12, a13, a14⟩ := u'
  refine tv_compL (t := t) hw ht S (fun u' S => ?_)
  obtain ⟨lg, oc, de, hd, fv, ov, a1, a2, a3, a4, a5, a6, a7, a8, a9, a10, a11, a12, a13, a14⟩ := u'
  refine tv_value3 hw ht S (fun r8 u' h8 S => ?_)
  obtain ⟨lg, oc, de, hd, fv, ov, a1, a2, a3, a4, a5, a6, a7, a8, a9, a10, a11, a12, a13, a14⟩ := u'
  have fin : ∀ r9 r10, tv_h4 t p4 r9 r10 → wL_lawOf_79 post 15 252 (nI (4 + t)) p3 p4 1 1 r8 r9 r10 (-1) 1 (1 + 14) (20 + 232) := by
    intro r9 r10 h4
    refine br_f (by decide) (br_f (nI_pos (by omega)) (br_f (nI_nlt (a := 7) (by omega) (by omega)) (br_f (by decide) (br_f (nI_nlt (b := 4) (by omega) (by omega)) ?_))))
    exact tv_118L ht h8 h4 H
  rcases tv_ix p4 with hx | ⟨v, hv, e⟩
  · refine tv_findN (hx.imp id tv_w3) ?_
    refine tv_apartN hx (tv_feedL hw ht S (fun u' => ?_))
    obtain ⟨lg, oc, de, hd, fv, ov, a1, a2, a3, a4, a5, a6, a7, a8, a9, a10, a11, a12, a13, a14⟩ := u'
    exact tv_is hw rfl (fin _ _ (Or.inl ⟨hx, rfl, rfl⟩))
  · subst e
    by_cases hv3 : v < 3
    · refine tv_findY hw ht hv3 S (fun u' S => ?_)
      obtain ⟨lg, oc, de, hd, fv, ov, a1, a2, a3, a4, a5, a6, a7, a8, a9, a10, a11, a12, a13, a14⟩ := u'
      refine tv_apartY hw ht hv S (fun u' S => ?_)
      obtain ⟨lg, oc, de, hd, fv, ov, a1, a2, a3, a4, a5, a6, a7, a8, a9, a10, a11, a12, a13, a14⟩ := u'
      refine tv_feedL hw ht S (fun u' => ?_)
      obtain ⟨lg, oc, de, hd, fv, ov, a1, a2, a3, a4, a5, a6, a7, a8, a9, a10, a11, a12, a13, a14⟩ := u'
      exact tv_is hw rfl (fin _ _ (Or.inr ⟨v, hv, rfl, by rw [if_pos hv3], rfl⟩))
    · refine tv_findN (Or.inr (nI_le (a := 3) (by omega) (by omega))) ?_
      refine tv_apartY hw ht hv S (fun u' S => ?_)
      obtain ⟨lg, oc, de, hd, fv, ov, a1, a2, a3, a4, a5, a6, a7, a8, a9, a10, a11, a12, a13, a14⟩ := u'
      refine tv_feedL hw ht S (fun u' => ?_)
      obtain ⟨lg, oc, de, hd, fv, ov, a1, a2, a3, a4, a5, a6, a7, a8, a9, a10, a11, a12, a13, a14⟩ := u'
      exact tv_is hw rfl (fin _ _ (Or.inr ⟨v, hv, rfl, by rw [if_neg hv3], rfl⟩))
theorem tv_lawOf {post : Int32 → St0 → Prop} {p0 p1 p2 p3 p4 : Int32} (H : post 1 ()) : wpL_lawOf post 15 252 () p0 p1 p2 p3 p4 := by
  by_cases hp : p1 = 0 ∨ p1 = 1
  · have : ∃ w, w < 2 ∧ p1 = nI w := by
      rcases hp with e | e
      · exact ⟨0, by omega, e⟩
      · exact ⟨1, by omega, e⟩
    obtain ⟨w, hw, e⟩ := this
    subst e
    by_cases h0 : p2 < 0
    · exact tv_lawB hw (Or.inl h0) H
    · by_cases h1 : 7 < p2
      · exact tv_lawB hw (Or.inr h1) H
      · obtain ⟨j, hj, e⟩ := nI_of2 (M := 7) (n := 7) rfl h0 (Int32.not_lt.mp h1)
        subst e
        by_cases h4 : j < 4
        · exact tv_lawC hw h4 H
        · have : j = 4 + (j - 4) := by omega
          rw [this]
          exact tv_lawL hw (by omega) H
  · exact tv_lawA (fun e => hp (Or.inl e)) (fun e => hp (Or.inr e)) H
theorem tv_cell {post : Int32 → Prop} {L : Nat} {xs : Nat → Int32} {i : Nat} (hL : L ≤ 5) (hi : i < 5) (H : ∀ r, post r) : wpL_cellAt post L xs () (nI i) :=
  pk_le L i (fun _ => H _) (fun h => ⟨vp_in_nI h (by omega), H _⟩)
theorem i_vc (xs : Nat → Int32) (L : Nat) (hL : L ≤ 5) : wpL_law (fun r => r = 1) L xs :=
  tv_cell (i := 0) hL (by omega) (fun _ => tv_cell (i := 1) hL (by omega) (fun _ => tv_cell (i := 2) hL (by omega) (fun _ => tv_cell (i := 3) hL (by omega) (fun _ => tv_cell (i := 4) hL (by omega) (fun _ => ⟨15, 252, by omega, by omega, tv_lawOf rfl⟩)))))
end
