section
/-- an array out of a list of places and values, the newest first -/
def cz_l : List (Nat × Int32) → Nat → Int32
  | [] => fun _ => 0
  | p :: l => upd (cz_l l) p.1 p.2
/-- an array out of a list -/
def cz_t (l : List Int32) : Nat → Int32 := fun i => l.getD i 0
theorem cz_i3 (r o : Nat) : (3 : Int32) * nI r + nI o = nI (3 * r + o) := by
  show nI 3 * nI r + nI o = _
  rw [pk_mul, nI_add]
theorem cz_i24 (r x o : Nat) : (24 : Int32) * nI r + 3 * nI x + nI o = nI (24 * r + 3 * x + o) := by
  show nI 24 * nI r + nI 3 * nI x + nI o = _
  rw [pk_mul, pk_mul, nI_add, nI_add]
theorem cz_i24b (r x : Nat) : (24 : Int32) * nI r + 3 * nI x = nI (24 * r + 3 * x) := by
  show nI 24 * nI r + nI 3 * nI x = _
  rw [pk_mul, pk_mul, nI_add]
theorem cz_i49 (r n : Nat) : (49 : Int32) * nI r + nI n = nI (49 * r + n) := by
  show nI 49 * nI r + nI n = _
  rw [pk_mul, nI_add]
theorem cz_z (k : Nat) : upd (fun _ => 0) k 0 = fun _ => 0 := by
  funext j
  show (if j = k then (0 : Int32) else 0) = 0
  split <;> rfl
theorem cz_same (a : Nat → Int32) (k : Nat) : upd a k (a k) = a := by
  funext j
  show (if j = k then a k else a j) = a j
  by_cases h : j = k
  · rw [if_pos h, h]
  · rw [if_neg h]
theorem cz_tu {l l' : List Int32} {i : Nat} {v : Int32} (hi : i < l.length) (hl : l.set i v = l') : upd (cz_t l) i v = cz_t l' := by
  subst hl
  funext j
  show (if j = i then v else l.getD j 0) = (l.set i v).getD j 0
  rw [List.getD_eq_getElem?_getD, List.getD_eq_getElem?_getD, List.getElem?_set]
  by_cases h : j = i
  · subst h
    rw [if_pos rfl, if_pos rfl, if_pos hi]
    rfl
  · rw [if_neg h, if_neg (fun z => h z.symm)]
theorem cz_z3 : cz_t [0, 0, 0] = fun _ => 0 := by
  funext j
  rcases j with _ | _ | _ | j <;> rfl
theorem cz_z9 : cz_t [0, 0, 0, 0, 0, 0, 0, 0, 0] = fun _ => 0 := by
  funext j
  rcases j with _ | _ | _ | _ | _ | _ | _ | _ | _ | j <;> rfl
/-- the larger of two, as cover and joinVectors store it -/
def cz_c (g : Nat → Int32) (l : List Int32) (i j : Nat) : List Int32 := l.set i (if g j ≤ l.getD i 0 then l.getD i 0 else g j)
theorem cz_c_len (g : Nat → Int32) (l : List Int32) (i j : Nat) : (cz_c g l i j).length = l.length := List.length_set
/-- the survivor of two last numbers -/
def cz_S (mi mk ot ok : Int32) : Int32 := if mi = ot then mi else if (if mi ≤ ok then 0 else mi) ≤ (if ot ≤ mk then 0 else ot) then (if ot ≤ mk then 0 else ot) else (if mi ≤ ok then 0 else mi)
theorem cz_s29 {post : Int32 → Prop} {x z : Int32} (H : post (if x ≤ z then z else x)) : wX_survivor_29 post x z :=
  br_c (fun h => by rw [if_pos h] at H; exact H) (fun h => by rw [if_neg h] at H; exact H)
theorem cz_s17 {post : Int32 → Prop} {x1 x2 z : Int32} (H : post (if z ≤ (if x2 ≤ x1 then 0 else x2) then (if x2 ≤ x1 then 0 else x2) else z)) : wX_survivor_17 post x1 x2 z :=
  br_c (fun h => by rw [if_pos h] at H; exact cz_s29 H) (fun h => by rw [if_neg h] at H; exact cz_s29 H)
theorem cz_sv {post : Int32 → Prop} {mi mk ot ok : Int32} (H : post (cz_S mi mk ot ok)) : wpX_survivor post () mi mk ot ok := by
  unfold cz_S at H
  refine br_c (fun h => ?_) (fun h => ?_)
  · rw [if_pos h] at H
    exact H
  · rw [if_neg h] at H
    refine br_c (fun h1 => ?_) (fun h1 => ?_)
    · rw [if_pos h1] at H
      exact cz_s17 H
    · rw [if_neg h1] at H
      exact cz_s17 H
/-- what a drop leaves of a number -/
def cz_D (g : Nat → Int32) (ch : Nat) (v : Int32) (o : Nat) : Int32 := if g (3 * ch + o) < v then v else 0
theorem cz_up {s : Nat → Int32} {r x i q y o : Nat} {v : Int32} (hx : x < 8) (hi : i < 3) (hy : y < 8) (ho : o < 3) : upd s (24 * r + 3 * x + i) v (24 * q + 3 * y + o) = if q = r ∧ y = x ∧ o = i then v else s (24 * q + 3 * y + o) := by
  by_cases h : q = r ∧ y = x ∧ o = i
  · rw [if_pos h, h.1, h.2.1, h.2.2, pk_us]
  · rw [if_neg h, pk_un (by omega)]
/-- the picture of lastAdd: what stands at an element rests on whether it is e, whether it is f, on the replica and the origin -/
def cz_V (e f : Nat) (T : Bool → Bool → Nat → Int32) (a : Nat → Int32) : Prop := ∀ q y o, q < 3 → y < 8 → o < 3 → a (24 * q + 3 * y + o) = T (decide (y = e)) (decide (y = f)) (3 * q + o)
/-- a table: the numbers at e (e is not f), at f (f is not e), at e that is f -/
def cz_q (l10 l01 l11 : List Int32) : Bool → Bool → Nat → Int32
  | true, true => fun i => l11.getD i 0
  | true, false => fun i => l10.getD i 0
  | false, true => fun i => l01.getD i 0
  | false, false => fun _ => 0
theorem cz_V0 (e f : Nat) : cz_V e f (cz_q [] [] []) (fun _ => 0) := by
  intro q y o _ _ _
  cases decide (y = e) <;> cases decide (y = f) <;> rfl
theorem cz_Vadd {e f r x o : Nat} {T T' : Bool → Bool → Nat → Int32} {sel : Bool → Bool → Bool} {a : Nat → Int32} {v : Int32} (hr : r < 3) (hx : x < 8) (ho : o < 3) (hs : ∀ y, decide (y = x) = sel (decide (y = e)) (decide (y = f)))
    (hT : ∀ b c i, i < 9 → T' b c i = if sel b c = true ∧ i = 3 * r + o then v else T b c i) (hv : cz_V e f T a) : cz_V e f T' (upd a (24 * r + 3 * x + o) v) := by
  intro q y p hq hy hp
  rw [cz_up hx ho hy hp, hT _ _ _ (by omega), ← hs y, hv q y p hq hy hp]
  by_cases h : q = r ∧ y = x ∧ p = o
  · rw [if_pos h, if_pos ⟨decide_eq_true h.2.1, by omega⟩]
  · rw [if_neg h, if_neg (fun z => h ⟨by have := z.2; omega, of_decide_eq_true z.1, by have := z.2; omega⟩)]
theorem cz_Vdrop {e f r ch : Nat} {X : Nat → Prop} {T T' : Bool → Bool → Nat → Int32} {sel : Bool → Bool → Bool} {g a b : Nat → Int32} (hs : ∀ y, y < 8 → (X y ↔ sel (decide (y = e)) (decide (y = f)) = true))
    (hT : ∀ b c i, i < 9 → T' b c i = if sel b c = true ∧ i / 3 = r then cz_D g ch (T b c i) (i % 3) else T b c i) (hv : cz_V e f T a)
    (h1 : ∀ q y o, q < 3 → y < 8 → o < 3 → q = r ∧ X y → b (24 * q + 3 * y + o) = cz_D g ch (a (24 * q + 3 * y + o)) o)
    (h2 : ∀ q y o, q < 3 → y < 8 → o < 3 → ¬ (q = r ∧ X y) → b (24 * q + 3 * y + o) = a (24 * q + 3 * y + o)) : cz_V e f T' b := by
  intro q y o hq hy ho
  rw [hT _ _ _ (by omega), ← hv q y o hq hy ho, show (3 * q + o) / 3 = q by omega, show (3 * q + o) % 3 = o by omega]
  by_cases h : q = r ∧ X y
  · rw [if_pos ⟨(hs y hy).mp h.2, h.1⟩, h1 q y o hq hy ho h]
  · rw [if_neg (fun z => h ⟨z.2, (hs y hy).mpr z.1⟩), h2 q y o hq hy ho h]
theorem cz_Vjoin {e f p t : Nat} {T T' : Bool → Bool → Nat → Int32} {g a b : Nat → Int32} (hp : p < 3) (ht : t < 3)
    (hT : ∀ b c i, i < 9 → T' b c i = if i / 3 = t then cz_S (T b c i) (g i) (T b c (3 * p + i % 3)) (g (3 * p + i % 3)) else T b c i) (hv : cz_V e f T a)
    (h : ∀ q y o, q < 3 → y < 8 → o < 3 → b (24 * q + 3 * y + o) = if q = t then cz_S (a (24 * t + 3 * y + o)) (g (3 * t + o)) (a (24 * p + 3 * y + o)) (g (3 * p + o)) else a (24 * q + 3 * y + o)) : cz_V e f T' b := by
  intro q y o hq hy ho
  rw [hT _ _ _ (by omega), h q y o hq hy ho, show (3 * q + o) / 3 = q by omega, show (3 * q + o) % 3 = o by omega]
  by_cases z : q = t
  · rw [if_pos z, if_pos z, hv t y o ht hy ho, hv p y o hp hy ho, z]
  · rw [if_neg z, if_neg z, hv q y o hq hy ho]
end
section
section
variable {m : Int32} {a1 a2 a3 a4 a5 a6 a7 a8 a9 a10 : Nat → Int32}
theorem cz_rep {post : Int32 → Prop} {r : Nat} (hr : r < 3) (H : post 1) : wpX_isReplica post () (nI r) :=
  br_f (nI_pos (by omega)) (br_f (nI_nlt (a := 2) (by omega) (by decide)) H)
theorem cz_das {post : St2 → Prop} {r ch : Nat} (hr : r < 3) (hc : ch < 48) (H : post (m, a1, a2, a3, a4, a5, a6, a7, a8, a9, fun _ => 0)) : wpX_dropAssigns post (m, a1, a2, a3, a4, a5, a6, a7, a8, a9, fun _ => 0) (nI r) (nI ch) :=
  pk_loop (σ := Unit) (fun n i _ => wX_dropAssigns_2 post (nI r) (nI ch) m n (nI i) a1 a2 a3 a4 a5 a6 a7 a8 a9 (fun _ => 0)) (fun _ _ => True) 3 0 () (by omega) trivial
    (fun n _ _ => br_t (nI_le (a := 3) (b := 3) (by omega) (by decide)) H)
    (fun n i _ hi _ hw => br_f (nI_ge (b := 3) hi (by decide)) (nm_r (cz_i3 r i) ⟨vp_in_nI (by omega) (by decide), pk_in (3 * ch + i) 144 (by omega) (cz_i3 ch i), br_c (fun _ => nm_r (nI_1 i) (hw () trivial)) (fun _ => ⟨vp_in_nI (by omega) (by decide), nm_r (cz_z _) (nm_r (nI_1 i) (hw () trivial))⟩)⟩))
theorem cz_cvs {post : St2 → Prop} {r ch o n : Nat} {C : List Int32} (hr : r < 3) (hc : ch < 48) (ho : o < 3) (hC : C.length = 9) (H : wX_cover_2 post (nI r) (nI ch) m n (nI (o + 1)) a1 a2 a3 a4 a5 a6 a7 (cz_t (cz_c a3 C (3 * r + o) (3 * ch + o))) a9 a10) : wX_cover_2 post (nI r) (nI ch) m (n + 1) (nI o) a1 a2 a3 a4 a5 a6 a7 (cz_t C) a9 a10 := by
  have k1 : (nI (3 * r + o)).toNatClampNeg = 3 * r + o := nI_clamp (by omega)
  have k2 : (nI (3 * ch + o)).toNatClampNeg = 3 * ch + o := nI_clamp (by omega)
  refine br_f (nI_ge (b := 3) ho (by decide)) (nm_r (cz_i3 r o) ⟨vp_in_nI (by omega) (by decide), pk_in (3 * ch + o) 144 (by omega) (cz_i3 ch o), ?_⟩)
  rw [cz_i3 ch o, k1, k2]
  refine br_c (fun g => nm_r (nI_1 o) ?_) (fun g => ⟨vp_in_nI (by omega) (by decide), vp_in_nI (by omega) (by decide), nm_r ?_ (nm_r (nI_1 o) H)⟩)
  · have e : cz_t (cz_c a3 C (3 * r + o) (3 * ch + o)) = cz_t C := by
      rw [← cz_same (cz_t C) (3 * r + o)]
      refine (cz_tu (by omega) ?_).symm
      show C.set (3 * r + o) (C.getD (3 * r + o) 0) = C.set (3 * r + o) _
      rw [if_pos (show a3 (3 * ch + o) ≤ C.getD (3 * r + o) 0 from g)]
    rw [e] at H
    exact H
  · refine cz_tu (by omega) ?_
    show C.set (3 * r + o) (a3 (3 * ch + o)) = C.set (3 * r + o) _
    rw [if_neg (show ¬ a3 (3 * ch + o) ≤ C.getD (3 * r + o) 0 from g)]
theorem cz_cov {post : St2 → Prop} {r ch : Nat} {C : List Int32} (hr : r < 3) (hc : ch < 48) (hC : C.length = 9)
    (H : post (m, a1, a2, a3, a4, a5, a6, a7, cz_t (cz_c a3 (cz_c a3 (cz_c a3 C (3 * r + 0) (3 * ch + 0)) (3 * r + 1) (3 * ch + 1)) (3 * r + 2) (3 * ch + 2)), a9, a10)) : wpX_cover post (m, a1, a2, a3, a4, a5, a6, a7, cz_t C, a9, a10) (nI r) (nI ch) :=
  ⟨4, cz_cvs (o := 0) hr hc (by omega) hC (cz_cvs (o := 1) hr hc (by omega) (by rw [cz_c_len, hC]) (cz_cvs (o := 2) hr hc (by omega) (by rw [cz_c_len, cz_c_len, hC]) (br_t (nI_le (a := 3) (b := 3) (by omega) (by decide)) H)))⟩
theorem cz_da {post : St2 → Prop} {r x ch : Nat} (hr : r < 3) (hx : x < 8) (hc : ch < 48)
    (H : ∀ b : Nat → Int32, (∀ q y o, q < 3 → y < 8 → o < 3 → b (24 * q + 3 * y + o) = if q = r ∧ y = x then cz_D a3 ch (a9 (24 * q + 3 * y + o)) o else a9 (24 * q + 3 * y + o)) → post (m, a1, a2, a3, a4, a5, a6, a7, a8, b, a10)) :
    wpX_dropAdds post (m, a1, a2, a3, a4, a5, a6, a7, a8, a9, a10) (nI r) (nI x) (nI ch) :=
  pk_loop (fun n i s => wX_dropAdds_3 post (nI r) (nI x) (nI ch) m n (nI i) a1 a2 a3 a4 a5 a6 a7 a8 s a10)
    (fun i s => ∀ q y o, q < 3 → y < 8 → o < 3 → s (24 * q + 3 * y + o) = if q = r ∧ y = x ∧ o < i then cz_D a3 ch (a9 (24 * q + 3 * y + o)) o else a9 (24 * q + 3 * y + o)) 3 0 a9 (by omega)
    (fun q y o _ _ _ => by rw [if_neg (by omega)])
    (fun n s h => br_t (nI_le (a := 3) (b := 3) (by omega) (by decide)) (H s (fun q y o hq hy ho => by rw [h q y o hq hy ho]; simp only [ho, and_true])))
    (fun n i s hi h hw => by
      have hg : s (24 * r + 3 * x + i) = a9 (24 * r + 3 * x + i) := by rw [h r x i hr hx hi, if_neg (by omega)]
      have k1 : (nI (24 * r + 3 * x + i)).toNatClampNeg = 24 * r + 3 * x + i := nI_clamp (by omega)
      have k2 : (nI (3 * ch + i)).toNatClampNeg = 3 * ch + i := nI_clamp (by omega)
      have K : ∀ s' : Nat → Int32, (∀ q y o, q < 3 → y < 8 → o < 3 → s' (24 * q + 3 * y + o) = if q = r ∧ y = x ∧ o = i then cz_D a3 ch (a9 (24 * q + 3 * y + o)) o else s (24 * q + 3 * y + o)) →
          ∀ q y o, q < 3 → y < 8 → o < 3 → s' (24 * q + 3 * y + o) = if q = r ∧ y = x ∧ o < i + 1 then cz_D a3 ch (a9 (24 * q + 3 * y + o)) o else a9 (24 * q + 3 * y + o) := by
        intro s' hs q y o hq hy ho
        rw [hs q y o hq hy ho, h q y o hq hy ho]
        by_cases e : q = r ∧ y = x ∧ o = i
        · rw [if_pos e, if_pos ⟨e.1, e.2.1, by omega⟩]
        · rw [if_neg e]
          by_cases e2 : q = r ∧ y = x ∧ o < i
          · rw [if_pos e2, if_pos ⟨e2.1, e2.2.1, by omega⟩]
          · rw [if_neg e2, if_neg (by omega)]
      refine br_f (nI_ge (b := 3) hi (by decide)) (nm_r (cz_i24 r x i) ⟨vp_in_nI (by omega) (by decide), pk_in (3 * ch + i) 144 (by omega) (cz_i3 ch i), ?_⟩)
      rw [cz_i3 ch i, k1, k2, hg]
      refine br_c (fun g => nm_r (nI_1 i) (hw _ (K _ (fun q y o hq hy ho => ?_)))) (fun g => ⟨vp_in_nI (by omega) (by decide), nm_e (nm_r (nI_1 i) (hw _ (K _ (fun q y o hq hy ho => ?_))))⟩)
      · by_cases e : q = r ∧ y = x ∧ o = i
        · rw [if_pos e, e.1, e.2.1, e.2.2, hg]
          unfold cz_D
          rw [if_pos g]
        · rw [if_neg e]
      · rw [cz_up hx hi hy ho]
        by_cases e : q = r ∧ y = x ∧ o = i
        · rw [if_pos e, if_pos e, e.1, e.2.1, e.2.2]
          unfold cz_D
          rw [if_neg g]
        · rw [if_neg e, if_neg e])
theorem cz_128 {post : St2 → Prop} {r o : Nat} {v : Int32} (hr : r < 3) (ho : o < 3) (H : post (m, a1, a2, a3, a4, a5, a6, upd a7 (3 * r + o) v, a8, a9, a10)) : wX_apply_128 post (nI r) (nI o) v m a1 a2 a3 a4 a5 a6 a7 a8 a9 a10 :=
  ⟨pk_in (3 * r + o) 9 (by omega) (cz_i3 r o), nm_r (by rw [cz_i3 r o, nI_clamp (show 3 * r + o < 2 ^ 31 by omega)]) H⟩
theorem cz_95 {post : St2 → Prop} {r ch o : Nat} {v : Int32} {C : List Int32} (hr : r < 3) (hc : ch < 48) (ho : o < 3) (hC : C.length = 9)
    (H : ∀ b : Nat → Int32, (∀ q y o, q < 3 → y < 8 → o < 3 → b (24 * q + 3 * y + o) = if q = r then cz_D a3 ch (a9 (24 * q + 3 * y + o)) o else a9 (24 * q + 3 * y + o)) → post (m, a1, a2, a3, a4, a5, a6, upd a7 (3 * r + o) v, cz_t (cz_c a3 (cz_c a3 (cz_c a3 C (3 * r + 0) (3 * ch + 0)) (3 * r + 1) (3 * ch + 1)) (3 * r + 2) (3 * ch + 2)), b, fun _ => 0)) :
    ∃ n, wX_apply_95 post (nI r) (nI ch) (nI o) v n 0 m a1 a2 a3 a4 a5 a6 a7 (cz_t C) a9 (fun _ => 0) :=
  pk_loop (fun n i s => wX_apply_95 post (nI r) (nI ch) (nI o) v n (nI i) m a1 a2 a3 a4 a5 a6 a7 (cz_t C) s (fun _ => 0))
    (fun i s => ∀ q y o, q < 3 → y < 8 → o < 3 → s (24 * q + 3 * y + o) = if q = r ∧ y < i then cz_D a3 ch (a9 (24 * q + 3 * y + o)) o else a9 (24 * q + 3 * y + o)) 8 0 a9 (by omega)
    (fun q y o _ _ _ => by rw [if_neg (by omega)])
    (fun n s h => br_t (nI_le (a := 8) (b := 8) (by omega) (by decide)) (cz_das hr hc (cz_cov hr hc hC (cz_128 hr ho (H s (fun q y o hq hy ho => by rw [h q y o hq hy ho]; simp only [hy, and_true]))))))
    (fun n i s hi h hw => br_f (nI_ge (b := 8) hi (by decide)) (cz_da hr hi hc (fun b hb => nm_r (nI_1 i) (hw b (fun q y o hq hy ho => by
      rw [hb q y o hq hy ho, h q y o hq hy ho]
      by_cases e : q = r ∧ y = i
      · rw [if_pos e, if_neg (by omega), if_pos ⟨e.1, by omega⟩]
      · rw [if_neg e]
        by_cases e2 : q = r ∧ y < i
        · rw [if_pos e2, if_pos ⟨e2.1, by omega⟩]
        · rw [if_neg e2, if_neg (by omega)])))))
theorem cz_apAdd {post : St2 → Prop} {r ch o x : Nat} {v : Int32} (hr : r < 3) (hc : ch < 48) (ho : o < 3) (hx : x < 8) (h1 : a1 ch = 0) (h2 : a2 ch = nI x)
    (H : post (m, a1, a2, a3, a4, a5, a6, upd a7 (3 * r + o) v, a8, upd a9 (24 * r + 3 * x + o) v, a10)) : wpX_apply post (m, a1, a2, a3, a4, a5, a6, a7, a8, a9, a10) (nI r) (nI ch) (nI o) v := by
  have k1 : (nI ch).toNatClampNeg = ch := nI_clamp (by omega)
  have e : (24 : Int32) * nI r + 3 * a2 (nI ch).toNatClampNeg + nI o = nI (24 * r + 3 * x + o) := by rw [k1, h2, cz_i24]
  exact ⟨vp_in_nI hc (by decide), nm_r (by rw [k1, h1]) (br_t rfl ⟨vp_in_nI hc (by decide), pk_in (24 * r + 3 * x + o) 72 (by omega) e, nm_r (by rw [e, nI_clamp (show 24 * r + 3 * x + o < 2 ^ 31 by omega)]) (cz_128 hr ho H)⟩)⟩
theorem cz_apRem {post : St2 → Prop} {r ch o x : Nat} {v : Int32} (hr : r < 3) (hc : ch < 48) (ho : o < 3) (hx : x < 8) (h1 : a1 ch = 1) (h2 : a2 ch = nI x)
    (H : ∀ b : Nat → Int32, (∀ q y o, q < 3 → y < 8 → o < 3 → b (24 * q + 3 * y + o) = if q = r ∧ y = x then cz_D a3 ch (a9 (24 * q + 3 * y + o)) o else a9 (24 * q + 3 * y + o)) → post (m, a1, a2, a3, a4, a5, a6, upd a7 (3 * r + o) v, a8, b, a10)) : wpX_apply post (m, a1, a2, a3, a4, a5, a6, a7, a8, a9, a10) (nI r) (nI ch) (nI o) v := by
  have k1 : (nI ch).toNatClampNeg = ch := nI_clamp (by omega)
  refine ⟨vp_in_nI hc (by decide), nm_r (show a1 (nI ch).toNatClampNeg = 1 by rw [k1, h1]) (br_f (by decide) (br_t rfl ⟨vp_in_nI hc (by decide), ?_⟩))⟩
  rw [k1, h2]
  exact cz_da hr hx hc (fun b hb => cz_128 hr ho (H b hb))
theorem cz_apCnt {post : St2 → Prop} {r ch o : Nat} {v : Int32} (hr : r < 3) (hc : ch < 48) (ho : o < 3) (h1 : a1 ch = 3)
    (H : post (m, a1, a2, a3, a4, a5, a6, upd a7 (3 * r + o) v, a8, a9, a10)) : wpX_apply post (m, a1, a2, a3, a4, a5, a6, a7, a8, a9, a10) (nI r) (nI ch) (nI o) v := by
  have k1 : (nI ch).toNatClampNeg = ch := nI_clamp (by omega)
  exact ⟨vp_in_nI hc (by decide), nm_r (show a1 (nI ch).toNatClampNeg = 3 by rw [k1, h1]) (br_f (by decide) (br_f (by decide) (br_f (by decide) (br_f (by decide) (cz_128 hr ho H)))))⟩
theorem cz_apRst {post : St2 → Prop} {r ch o : Nat} {v : Int32} {C : List Int32} (hr : r < 3) (hc : ch < 48) (ho : o < 3) (hC : C.length = 9) (h1 : a1 ch = 4)
    (H : ∀ b : Nat → Int32, (∀ q y o, q < 3 → y < 8 → o < 3 → b (24 * q + 3 * y + o) = if q = r then cz_D a3 ch (a9 (24 * q + 3 * y + o)) o else a9 (24 * q + 3 * y + o)) → post (m, a1, a2, a3, a4, a5, a6, upd a7 (3 * r + o) v, cz_t (cz_c a3 (cz_c a3 (cz_c a3 C (3 * r + 0) (3 * ch + 0)) (3 * r + 1) (3 * ch + 1)) (3 * r + 2) (3 * ch + 2)), b, fun _ => 0)) :
    wpX_apply post (m, a1, a2, a3, a4, a5, a6, a7, cz_t C, a9, fun _ => 0) (nI r) (nI ch) (nI o) v := by
  have k1 : (nI ch).toNatClampNeg = ch := nI_clamp (by omega)
  exact ⟨vp_in_nI hc (by decide), nm_r (show a1 (nI ch).toNatClampNeg = 4 by rw [k1, h1]) (br_f (by decide) (br_f (by decide) (br_f (by decide) (br_t rfl (cz_95 hr hc ho hC H)))))⟩
theorem cz_ja11 {post : St2 → Prop} {J : Int32 → (Nat → Int32) → (Nat → Int32) → (Nat → Int32) → (Nat → Int32) → (Nat → Int32) → (Nat → Int32) → (Nat → Int32) → (Nat → Int32) → (Nat → Int32) → (Nat → Int32) → Prop} {p t x : Nat} {s0 : Nat → Int32} (hp : p < 3) (ht : t < 3) (hpt : p ≠ t) (hx : x < 8)
    (h0 : ∀ q y o, q < 3 → y < 8 → o < 3 → s0 (24 * q + 3 * y + o) = if q = t ∧ y < x then cz_S (a9 (24 * t + 3 * y + o)) (a7 (3 * t + o)) (a9 (24 * p + 3 * y + o)) (a7 (3 * p + o)) else a9 (24 * q + 3 * y + o))
    (H : ∀ s : Nat → Int32, (∀ q y o, q < 3 → y < 8 → o < 3 → s (24 * q + 3 * y + o) = if q = t ∧ y < x + 1 then cz_S (a9 (24 * t + 3 * y + o)) (a7 (3 * t + o)) (a9 (24 * p + 3 * y + o)) (a7 (3 * p + o)) else a9 (24 * q + 3 * y + o)) → J (nI (x + 1)) a1 a2 a3 a4 a5 a6 a7 a8 s a10) :
    ∃ n, wX_joinAdds_11 post J (nI p) (nI t) (nI x) m n 0 a1 a2 a3 a4 a5 a6 a7 a8 s0 a10 :=
  pk_loop (fun n i s => wX_joinAdds_11 post J (nI p) (nI t) (nI x) m n (nI i) a1 a2 a3 a4 a5 a6 a7 a8 s a10)
    (fun i s => ∀ q y o, q < 3 → y < 8 → o < 3 → s (24 * q + 3 * y + o) = if q = t ∧ (y < x ∨ y = x ∧ o < i) then cz_S (a9 (24 * t + 3 * y + o)) (a7 (3 * t + o)) (a9 (24 * p + 3 * y + o)) (a7 (3 * p + o)) else a9 (24 * q + 3 * y + o)) 3 0 s0 (by omega)
    (fun q y o hq hy ho => by
      rw [h0 q y o hq hy ho]
      by_cases e : q = t ∧ y < x
      · rw [if_pos e, if_pos ⟨e.1, Or.inl e.2⟩]
      · rw [if_neg e, if_neg (by omega)])
    (fun n s h => br_t (nI_le (a := 3) (b := 3) (by omega) (by decide)) (nm_r (nI_1 x) (H s (fun q y o hq hy ho => by
      rw [h q y o hq hy ho]
      by_cases e : q = t ∧ y < x + 1
      · rw [if_pos e, if_pos (by omega)]
      · rw [if_neg e, if_neg (by omega)]))))
    (fun n i s hi h hw => by
      have g1 : s (24 * t + 3 * x + i) = a9 (24 * t + 3 * x + i) := by rw [h t x i ht hx hi, if_neg (by omega)]
      have g2 : s (24 * p + 3 * x + i) = a9 (24 * p + 3 * x + i) := by rw [h p x i hp hx hi, if_neg (by omega)]
      have k1 : (nI (24 * t + 3 * x + i)).toNatClampNeg = 24 * t + 3 * x + i := nI_clamp (by omega)
      have k2 : (nI (24 * p + 3 * x + i)).toNatClampNeg = 24 * p + 3 * x + i := nI_clamp (by omega)
      have k3 : (nI (3 * t + i)).toNatClampNeg = 3 * t + i := nI_clamp (by omega)
      have k4 : (nI (3 * p + i)).toNatClampNeg = 3 * p + i := nI_clamp (by omega)
      refine br_f (nI_ge (b := 3) hi (by decide)) ⟨pk_in (24 * t + 3 * x + i) 72 (by omega) (cz_i24 t x i), nm_r (show _ = a9 (24 * t + 3 * x + i) by rw [cz_i24, k1, g1]) ⟨pk_in (24 * p + 3 * x + i) 72 (by omega) (cz_i24 p x i), nm_r (show _ = a9 (24 * p + 3 * x + i) by rw [cz_i24, k2, g2]) ⟨pk_in (3 * t + i) 9 (by omega) (cz_i3 t i), pk_in (3 * p + i) 9 (by omega) (cz_i3 p i), ?_⟩⟩⟩
      rw [cz_i3 t i, cz_i3 p i, k3, k4]
      refine cz_sv ⟨pk_in (24 * t + 3 * x + i) 72 (by omega) (cz_i24 t x i), nm_r (show _ = upd s (24 * t + 3 * x + i) (cz_S (a9 (24 * t + 3 * x + i)) (a7 (3 * t + i)) (a9 (24 * p + 3 * x + i)) (a7 (3 * p + i))) by rw [cz_i24, k1]) (nm_r (nI_1 i) (hw _ (fun q y o hq hy ho => ?_)))⟩
      rw [cz_up hx hi hy ho, h q y o hq hy ho]
      by_cases e : q = t ∧ y = x ∧ o = i
      · rw [if_pos e, if_pos (by omega), e.2.1, e.2.2]
      · rw [if_neg e]
        by_cases e2 : q = t ∧ (y < x ∨ y = x ∧ o < i)
        · rw [if_pos e2, if_pos (by omega)]
        · rw [if_neg e2, if_neg (by omega)])
theorem cz_ja {post : St2 → Prop} {p t : Nat} (hp : p < 3) (ht : t < 3) (hpt : p ≠ t)
    (H : ∀ b : Nat → Int32, (∀ q y o, q < 3 → y < 8 → o < 3 → b (24 * q + 3 * y + o) = if q = t then cz_S (a9 (24 * t + 3 * y + o)) (a7 (3 * t + o)) (a9 (24 * p + 3 * y + o)) (a7 (3 * p + o)) else a9 (24 * q + 3 * y + o)) → post (m, a1, a2, a3, a4, a5, a6, a7, a8, b, a10)) :
    wpX_joinAdds post (m, a1, a2, a3, a4, a5, a6, a7, a8, a9, a10) (nI p) (nI t) :=
  pk_loop (fun n i s => wX_joinAdds_2 post (nI p) (nI t) m n (nI i) a1 a2 a3 a4 a5 a6 a7 a8 s a10)
    (fun i s => ∀ q y o, q < 3 → y < 8 → o < 3 → s (24 * q + 3 * y + o) = if q = t ∧ y < i then cz_S (a9 (24 * t + 3 * y + o)) (a7 (3 * t + o)) (a9 (24 * p + 3 * y + o)) (a7 (3 * p + o)) else a9 (24 * q + 3 * y + o)) 8 0 a9 (by omega)
    (fun q y o _ _ _ => by rw [if_neg (by omega)])
    (fun n s h => br_t (nI_le (a := 8) (b := 8) (by omega) (by decide)) (H s (fun q y o hq hy ho => by rw [h q y o hq hy ho]; simp only [hy, and_true])))
    (fun n i s hi h hw => br_f (nI_ge (b := 8) hi (by decide)) (cz_ja11 hp ht hpt hi h hw))
theorem cz_js {post : St2 → Prop} {p t : Nat} (hp : p < 3) (ht : t < 3) (H : post (m, a1, a2, a3, a4, a5, a6, a7, a8, a9, fun _ => 0)) : wpX_joinAssigns post (m, a1, a2, a3, a4, a5, a6, a7, a8, a9, fun _ => 0) (nI p) (nI t) :=
  pk_loop (σ := Unit) (fun n i _ => wX_joinAssigns_2 post (nI p) (nI t) m n (nI i) a1 a2 a3 a4 a5 a6 a7 a8 a9 (fun _ => 0)) (fun _ _ => True) 3 0 () (by omega) trivial
    (fun n _ _ => br_t (nI_le (a := 3) (b := 3) (by omega) (by decide)) H)
    (fun n i _ hi _ hw => br_f (nI_ge (b := 3) hi (by decide)) ⟨pk_in (3 * t + i) 9 (by omega) (cz_i3 t i), nm_e ⟨pk_in (3 * p + i) 9 (by omega) (cz_i3 p i), nm_e ⟨pk_in (3 * t + i) 9 (by omega) (cz_i3 t i), pk_in (3 * p + i) 9 (by omega) (cz_i3 p i), br_t rfl ⟨pk_in (3 * t + i) 9 (by omega) (cz_i3 t i), nm_r (cz_z _) (nm_r (nI_1 i) (hw () trivial))⟩⟩⟩⟩)
theorem cz_jvs {post : St2 → Prop} {p t o n : Nat} {K C : List Int32} (hp : p < 3) (ht : t < 3) (ho : o < 3) (hK : K.length = 9) (hC : C.length = 9)
    (H : wX_joinVectors_2 post (nI p) (nI t) m n (nI (o + 1)) a1 a2 a3 a4 a5 a6 (cz_t (cz_c (cz_t K) K (3 * t + o) (3 * p + o))) (cz_t (cz_c (cz_t C) C (3 * t + o) (3 * p + o))) a9 a10) :
    wX_joinVectors_2 post (nI p) (nI t) m (n + 1) (nI o) a1 a2 a3 a4 a5 a6 (cz_t K) (cz_t C) a9 a10 := by
  have k1 : (nI (3 * t + o)).toNatClampNeg = 3 * t + o := nI_clamp (by omega)
  have k2 : (nI (3 * p + o)).toNatClampNeg = 3 * p + o := nI_clamp (by omega)
  have i1 : ∀ {N : Nat}, 9 ≤ N → N < 2 ^ 31 → vp_in (nI (3 * t + o)) N := fun h h2 => vp_in_nI (by omega) h2
  have i2 : ∀ {N : Nat}, 9 ≤ N → N < 2 ^ 31 → vp_in (nI (3 * p + o)) N := fun h h2 => vp_in_nI (by omega) h2
  have F : ∀ v : Int32, v = (if cz_t K (3 * p + o) ≤ K.getD (3 * t + o) 0 then K.getD (3 * t + o) 0 else cz_t K (3 * p + o)) → wX_joinVectors_61 post (wX_joinVectors_2 post (nI p) (nI t) m n) (nI p) (nI t) (nI o) (nI (3 * p + o)) (nI (3 * t + o)) v (nI (3 * t + o)) m a1 a2 a3 a4 a5 a6 (cz_t K) (cz_t C) a9 a10 := by
    intro v hv
    refine ⟨i1 (by decide) (by decide), nm_r (show _ = cz_t (cz_c (cz_t K) K (3 * t + o) (3 * p + o)) by rw [k1]; exact cz_tu (by omega) (by rw [hv]; rfl)) ⟨i2 (by decide) (by decide), i1 (by decide) (by decide), ?_⟩⟩
    rw [k1, k2]
    refine br_c (fun g => ⟨i1 (by decide) (by decide), i1 (by decide) (by decide), nm_r ?_ (nm_r (nI_1 o) H)⟩) (fun g => ⟨i2 (by decide) (by decide), i1 (by decide) (by decide), nm_r ?_ (nm_r (nI_1 o) H)⟩)
    · refine cz_tu (by omega) ?_
      show C.set (3 * t + o) (C.getD (3 * t + o) 0) = C.set (3 * t + o) _
      rw [if_pos (show cz_t C (3 * p + o) ≤ C.getD (3 * t + o) 0 from g)]
    · refine cz_tu (by omega) ?_
      show C.set (3 * t + o) (cz_t C (3 * p + o)) = C.set (3 * t + o) _
      rw [if_neg (show ¬ cz_t C (3 * p + o) ≤ C.getD (3 * t + o) 0 from g)]
  refine br_f (nI_ge (b := 3) ho (by decide)) (nm_r (cz_i3 p o) (nm_r (cz_i3 t o) ⟨i2 (by decide) (by decide), i1 (by decide) (by decide), ?_⟩))
  rw [k1, k2]
  refine br_c (fun g => ⟨i1 (by decide) (by decide), F _ ?_⟩) (fun g => ⟨i2 (by decide) (by decide), F _ ?_⟩)
  · rw [if_pos (show cz_t K (3 * p + o) ≤ K.getD (3 * t + o) 0 from g)]
    rfl
  · rw [if_neg (show ¬ cz_t K (3 * p + o) ≤ K.getD (3 * t + o) 0 from g)]
/-- three places of a row joined -/
def cz_j (K : List Int32) (p t : Nat) : List Int32 :=
  (fun K1 => (fun K2 => cz_c (cz_t K2) K2 (3 * t + 2) (3 * p + 2)) (cz_c (cz_t K1) K1 (3 * t + 1) (3 * p + 1))) (cz_c (cz_t K) K (3 * t + 0) (3 * p + 0))
theorem cz_jv {post : St2 → Prop} {p t : Nat} {K C : List Int32} (hp : p < 3) (ht : t < 3) (hK : K.length = 9) (hC : C.length = 9)
    (H : post (m, a1, a2, a3, a4, a5, a6, cz_t (cz_j K p t), cz_t (cz_j C p t), a9, a10)) : wpX_joinVectors post (m, a1, a2, a3, a4, a5, a6, cz_t K, cz_t C, a9, a10) (nI p) (nI t) :=
  ⟨4, cz_jvs (o := 0) hp ht (by omega) hK hC (cz_jvs (o := 1) hp ht (by omega) (by rw [cz_c_len, hK]) (by rw [cz_c_len, hC]) (cz_jvs (o := 2) hp ht (by omega) (by rw [cz_c_len, cz_c_len, hK]) (by rw [cz_c_len, cz_c_len, hC]) (br_t (nI_le (a := 3) (b := 3) (by omega) (by decide)) H)))⟩
end
end
section
section
variable {m : Nat} {a1 a2 a3 a4 a5 a6 a7 a8 a9 a10 : Nat → Int32}
theorem cz_ms {post : Int32 → St2 → Prop} {mm s p2 : Int32} {r o n : Nat} (hm : m < 48) (hr : r < 3) (ho : o < 3)
    (H : wX_make_53 post (nI r) s p2 (nI m) mm n (nI (o + 1)) a1 a2 (upd a3 (3 * m + o) (a7 (3 * r + o))) a4 a5 a6 a7 a8 a9 a10) : wX_make_53 post (nI r) s p2 (nI m) mm (n + 1) (nI o) a1 a2 a3 a4 a5 a6 a7 a8 a9 a10 :=
  br_f (nI_ge (b := 3) ho (by decide)) ⟨pk_in (3 * r + o) 9 (by omega) (cz_i3 r o), pk_in (3 * m + o) 144 (by omega) (cz_i3 m o), nm_r (by rw [cz_i3 m o, cz_i3 r o, nI_clamp (show 3 * m + o < 2 ^ 31 by omega), nI_clamp (show 3 * r + o < 2 ^ 31 by omega)]) (nm_r (nI_1 o) H)⟩
theorem cz_m155 {post : Int32 → St2 → Prop} {mm v z0 z1 : Int32} {r k : Nat} (hr : r < 3) (hk : k < 48) (hv : z1 + z0 = v)
    (H : ∀ Q : St2 → Prop, (∀ (f : Int32) (b1 b2 b3 b4 b5 b6 b7 b8 b9 b10 : Nat → Int32), post f (f, b1, b2, b3, b4, b5, b6, b7, b8, b9, b10) → Q (f, b1, b2, b3, b4, b5, b6, b7, b8, b9, b10)) →
      wpX_apply Q (mm, a1, a2, a3, a4, a5, upd a6 (49 * r + (k + 1)) v, a7, a8, a9, a10) (nI r) (nI m) (nI r) (nI (k + 1))) :
    wX_make_155 post (nI r) (nI m) (nI (k + 1)) z0 z1 (49 * nI r + nI (k + 1)) mm a1 a2 a3 a4 a5 a6 a7 a8 a9 a10 :=
  ⟨pk_in (49 * r + (k + 1)) 147 (by omega) (cz_i49 r (k + 1)), nm_r (by rw [cz_i49 r (k + 1), nI_clamp (show 49 * r + (k + 1) < 2 ^ 31 by omega), hv]) (H _ (fun _ _ _ _ _ _ _ _ _ _ _ h => h))⟩
theorem cz_mk {post : Int32 → St2 → Prop} {s p2 v : Int32} {r k : Nat} (hm : m < 48) (hr : r < 3) (hk : k < 48) (h4 : a4 r = nI k) (hv : a6 (49 * r + k) + (if s = 3 then p2 else 0) = v)
    (H : ∀ Q : St2 → Prop, (∀ (f : Int32) (b1 b2 b3 b4 b5 b6 b7 b8 b9 b10 : Nat → Int32), post f (f, b1, b2, b3, b4, b5, b6, b7, b8, b9, b10) → Q (f, b1, b2, b3, b4, b5, b6, b7, b8, b9, b10)) →
      wpX_apply Q (nI (m + 1), upd a1 m s, upd a2 m p2, upd (upd (upd a3 (3 * m + 0) (a7 (3 * r + 0))) (3 * m + 1) (a7 (3 * r + 1))) (3 * m + 2) (a7 (3 * r + 2)), upd a4 r (nI (k + 1)), upd a5 (49 * r + (k + 1)) (nI m), upd a6 (49 * r + (k + 1)) v, a7, a8, a9, a10) (nI r) (nI m) (nI r) (nI (k + 1))) :
    wpX_make post (nI m, a1, a2, a3, a4, a5, a6, a7, a8, a9, a10) (nI r) s p2 := by
  have km : (nI m).toNatClampNeg = m := nI_clamp (by omega)
  have kr : (nI r).toNatClampNeg = r := nI_clamp (by omega)
  unfold wpX_make
  dsimp only
  refine cz_rep hr ?_
  refine br_f (by decide) (br_t (nI_lt (b := 48) hm (by decide)) (nm_r (nI_1 m) ⟨vp_in_nI hm (by decide), nm_r (by rw [km]) ⟨vp_in_nI hm (by decide), nm_r (by rw [km]) ⟨4, cz_ms (o := 0) hm hr (by omega) (cz_ms (o := 1) hm hr (by omega) (cz_ms (o := 2) hm hr (by omega) ?_))⟩⟩⟩))
  refine br_t (nI_le (a := 3) (b := 3) (by omega) (by decide)) ⟨vp_in_nI hr (by decide), nm_r (show a4 (nI r).toNatClampNeg + 1 = nI (k + 1) by rw [kr, h4, nI_1]) ⟨vp_in_nI hr (by decide), nm_r (by rw [kr]) ⟨pk_in (49 * r + (k + 1)) 147 (by omega) (cz_i49 r (k + 1)), nm_r (by rw [cz_i49 r (k + 1), nI_clamp (show 49 * r + (k + 1) < 2 ^ 31 by omega)]) ⟨?_, ?_⟩⟩⟩⟩
  · exact pk_in (49 * r + k) 147 (by omega) (by rw [cz_i49 r (k + 1)]; exact nI_pred (49 * r + k))
  · have e : a6 (49 * nI r + nI (k + 1) - 1).toNatClampNeg = a6 (49 * r + k) := by
      rw [cz_i49 r (k + 1), show nI (49 * r + (k + 1)) - 1 = nI (49 * r + k) from nI_pred (49 * r + k), nI_clamp (show 49 * r + k < 2 ^ 31 by omega)]
    rw [e]
    refine br_c (fun g => cz_m155 hr hk ?_ H) (fun g => cz_m155 hr hk ?_ H)
    · rw [if_pos g] at hv
      exact hv
    · rw [if_neg g] at hv
      exact hv
theorem cz_del {post : Int32 → St2 → Prop} {mm : Int32} {p t k ch : Nat} (hp : p < 3) (ht : t < 3) (hk : k < 48) (hc : ch < 48) (h7 : a7 (3 * t + p) = nI k) (h4 : nI (k + 1) ≤ a4 p) (h5 : a5 (49 * p + (k + 1)) = nI ch) (hs : ∀ o, o < 3 → a3 (3 * ch + o) ≤ a7 (3 * t + o))
    (H : ∀ Q : St2 → Prop, (∀ (f : Int32) (b1 b2 b3 b4 b5 b6 b7 b8 b9 b10 : Nat → Int32), post 0 (f, b1, b2, b3, b4, b5, b6, b7, b8, b9, b10) → Q (f, b1, b2, b3, b4, b5, b6, b7, b8, b9, b10)) →
      wpX_apply Q (mm, a1, a2, a3, a4, a5, a6, a7, a8, a9, a10) (nI t) (nI ch) (nI p) (nI (k + 1))) :
    wpX_deliver post (mm, a1, a2, a3, a4, a5, a6, a7, a8, a9, a10) (nI p) (nI t) := by
  have kp : (nI p).toNatClampNeg = p := nI_clamp (by omega)
  have e7 : a7 (3 * nI t + nI p).toNatClampNeg + 1 = nI (k + 1) := by rw [cz_i3 t p, nI_clamp (show 3 * t + p < 2 ^ 31 by omega), h7, nI_1]
  have e5 : a5 (49 * nI p + nI (k + 1)).toNatClampNeg = nI ch := by rw [cz_i49, nI_clamp (show 49 * p + (k + 1) < 2 ^ 31 by omega), h5]
  unfold wpX_deliver
  dsimp only
  refine cz_rep hp ?_
  refine br_f (by decide) ?_
  refine cz_rep ht ?_
  refine br_f (by decide) ⟨pk_in (3 * t + p) 9 (by omega) (cz_i3 t p), nm_r e7 ⟨vp_in_nI hp (by decide), br_t (by rw [kp]; exact h4) ⟨pk_in (49 * p + (k + 1)) 147 (by omega) (cz_i49 p (k + 1)), nm_r e5 ?_⟩⟩⟩
  exact pk_loop (σ := Unit) (fun n i _ => wX_deliver_57 post (nI p) (nI t) (nI (k + 1)) (nI ch) mm a1 a2 a3 a4 a5 a6 a7 a8 a9 a10 n (nI i)) (fun _ _ => True) 3 0 () (by omega) trivial
    (fun n _ _ => br_t (nI_le (a := 3) (b := 3) (by omega) (by decide)) (H _ (fun _ _ _ _ _ _ _ _ _ _ _ h => h)))
    (fun n i _ hi _ hw => br_f (nI_ge (b := 3) hi (by decide)) ⟨pk_in (3 * ch + i) 144 (by omega) (cz_i3 ch i), pk_in (3 * t + i) 9 (by omega) (cz_i3 t i), br_t (by rw [cz_i3 ch i, cz_i3 t i, nI_clamp (show 3 * ch + i < 2 ^ 31 by omega), nI_clamp (show 3 * t + i < 2 ^ 31 by omega)]; exact hs i hi) (nm_r (nI_1 i) (hw () trivial))⟩)
theorem cz_del1 {post : Int32 → St2 → Prop} {mm : Int32} {p t k : Nat} (hp : p < 3) (ht : t < 3) (h7 : a7 (3 * t + p) = nI k) (h4 : ¬ nI (k + 1) ≤ a4 p)
    (H : post (-1) (mm, a1, a2, a3, a4, a5, a6, a7, a8, a9, a10)) : wpX_deliver post (mm, a1, a2, a3, a4, a5, a6, a7, a8, a9, a10) (nI p) (nI t) := by
  have kp : (nI p).toNatClampNeg = p := nI_clamp (by omega)
  have e7 : a7 (3 * nI t + nI p).toNatClampNeg + 1 = nI (k + 1) := by rw [cz_i3 t p, nI_clamp (show 3 * t + p < 2 ^ 31 by omega), h7, nI_1]
  unfold wpX_deliver
  dsimp only
  refine cz_rep hp ?_
  refine br_f (by decide) ?_
  refine cz_rep ht ?_
  exact br_f (by decide) ⟨pk_in (3 * t + p) 9 (by omega) (cz_i3 t p), nm_r e7 ⟨vp_in_nI hp (by decide), br_f (by rw [kp]; exact h4) H⟩⟩
theorem cz_del2 {post : Int32 → St2 → Prop} {mm : Int32} {p t k ch : Nat} (hp : p < 3) (ht : t < 3) (hk : k < 48) (hc : ch < 48) (h7 : a7 (3 * t + p) = nI k) (h4 : nI (k + 1) ≤ a4 p) (h5 : a5 (49 * p + (k + 1)) = nI ch) (hs : ¬ a3 (3 * ch + 0) ≤ a7 (3 * t + 0))
    (H : post (-2) (mm, a1, a2, a3, a4, a5, a6, a7, a8, a9, a10)) : wpX_deliver post (mm, a1, a2, a3, a4, a5, a6, a7, a8, a9, a10) (nI p) (nI t) := by
  have kp : (nI p).toNatClampNeg = p := nI_clamp (by omega)
  have e7 : a7 (3 * nI t + nI p).toNatClampNeg + 1 = nI (k + 1) := by rw [cz_i3 t p, nI_clamp (show 3 * t + p < 2 ^ 31 by omega), h7, nI_1]
  have e5 : a5 (49 * nI p + nI (k + 1)).toNatClampNeg = nI ch := by rw [cz_i49, nI_clamp (show 49 * p + (k + 1) < 2 ^ 31 by omega), h5]
  have S : wX_deliver_57 post (nI p) (nI t) (nI (k + 1)) (nI ch) mm a1 a2 a3 a4 a5 a6 a7 a8 a9 a10 1 (nI 0) :=
    br_f (nI_ge (b := 3) (by omega) (by decide)) ⟨pk_in (3 * ch + 0) 144 (by omega) (cz_i3 ch 0), pk_in (3 * t + 0) 9 (by omega) (cz_i3 t 0), br_f (by rw [cz_i3 ch 0, cz_i3 t 0, nI_clamp (show 3 * ch + 0 < 2 ^ 31 by omega), nI_clamp (show 3 * t + 0 < 2 ^ 31 by omega)]; exact hs) H⟩
  unfold wpX_deliver
  dsimp only
  refine cz_rep hp ?_
  refine br_f (by decide) ?_
  refine cz_rep ht ?_
  exact br_f (by decide) ⟨pk_in (3 * t + p) 9 (by omega) (cz_i3 t p), nm_r e7 ⟨vp_in_nI hp (by decide), br_t (by rw [kp]; exact h4) ⟨pk_in (49 * p + (k + 1)) 147 (by omega) (cz_i49 p (k + 1)), nm_r e5 ⟨1, S⟩⟩⟩⟩
theorem cz_known {post : Int32 → Prop} {mm : Int32} {r o : Nat} (hr : r < 3) (ho : o < 3) (H : post (a7 (3 * r + o))) : wpX_known post (mm, a1, a2, a3, a4, a5, a6, a7, a8, a9, a10) (nI r) (nI o) := by
  have e7 : a7 (3 * nI r + nI o).toNatClampNeg = a7 (3 * r + o) := by rw [cz_i3 r o, nI_clamp (show 3 * r + o < 2 ^ 31 by omega)]
  unfold wpX_known
  dsimp only
  refine cz_rep hr ?_
  refine br_f (by decide) ?_
  refine cz_rep ho ?_
  refine br_f (by decide) ⟨pk_in (3 * r + o) 9 (by omega) (cz_i3 r o), ?_⟩
  rw [e7]
  exact H
theorem cz_values {post : Int32 → Prop} {mm : Int32} {r : Nat} (hr : r < 3) (H : post 0) : wpX_values post (mm, a1, a2, a3, a4, a5, a6, a7, a8, a9, fun _ => 0) (nI r) := by
  unfold wpX_values
  dsimp only
  refine cz_rep hr ?_
  exact br_f (by decide) (pk_loop (σ := Unit) (fun n i _ => wX_values_13 post (nI r) mm a1 a2 a3 a4 a5 a6 a7 a8 a9 (fun _ => 0) n 0 (nI i)) (fun _ _ => True) 3 0 () (by omega) trivial
    (fun n _ _ => br_t (nI_le (a := 3) (b := 3) (by omega) (by decide)) H)
    (fun n i _ hi _ hw => br_f (nI_ge (b := 3) hi (by decide)) ⟨pk_in (3 * r + i) 9 (by omega) (cz_i3 r i), br_t (show (0 : Int32) ≤ 0 by decide) (nm_r (nI_1 i) (hw () trivial))⟩))
theorem cz_ts {post : Int32 → Prop} {mm x : Int32} {r o n k c : Nat} (hr : r < 3) (ho : o < 3) (hk : k < 49) (hc : c < 49) (h7 : a7 (3 * r + o) = nI k) (h8 : a8 (3 * r + o) = nI c)
    (H : wX_total_13 post (nI r) mm a1 a2 a3 a4 a5 a6 a7 a8 a9 a10 n (x + (a6 (49 * o + k) - a6 (49 * o + c))) (nI (o + 1))) : wX_total_13 post (nI r) mm a1 a2 a3 a4 a5 a6 a7 a8 a9 a10 (n + 1) x (nI o) := by
  have e7 : (49 : Int32) * nI o + a7 (3 * nI r + nI o).toNatClampNeg = nI (49 * o + k) := by rw [cz_i3 r o, nI_clamp (show 3 * r + o < 2 ^ 31 by omega), h7, cz_i49]
  have e8 : (49 : Int32) * nI o + a8 (3 * nI r + nI o).toNatClampNeg = nI (49 * o + c) := by rw [cz_i3 r o, nI_clamp (show 3 * r + o < 2 ^ 31 by omega), h8, cz_i49]
  exact br_f (nI_ge (b := 3) ho (by decide)) ⟨pk_in (3 * r + o) 9 (by omega) (cz_i3 r o), pk_in (49 * o + k) 147 (by omega) e7, nm_r (by rw [e7, nI_clamp (show 49 * o + k < 2 ^ 31 by omega)]) ⟨pk_in (3 * r + o) 9 (by omega) (cz_i3 r o), pk_in (49 * o + c) 147 (by omega) e8, nm_r (by rw [e8, nI_clamp (show 49 * o + c < 2 ^ 31 by omega)]) (nm_r (nI_1 o) H)⟩⟩
theorem cz_total {post : Int32 → Prop} {mm v : Int32} {r : Nat} (k0 k1 k2 c0 c1 c2 : Nat) (hr : r < 3) (hb : (k0 < 49 ∧ k1 < 49 ∧ k2 < 49) ∧ c0 < 49 ∧ c1 < 49 ∧ c2 < 49) (h7 : a7 (3 * r + 0) = nI k0 ∧ a7 (3 * r + 1) = nI k1 ∧ a7 (3 * r + 2) = nI k2) (h8 : a8 (3 * r + 0) = nI c0 ∧ a8 (3 * r + 1) = nI c1 ∧ a8 (3 * r + 2) = nI c2)
    (hv : 0 + (a6 (49 * 0 + k0) - a6 (49 * 0 + c0)) + (a6 (49 * 1 + k1) - a6 (49 * 1 + c1)) + (a6 (49 * 2 + k2) - a6 (49 * 2 + c2)) = v) (H : post v) : wpX_total post (mm, a1, a2, a3, a4, a5, a6, a7, a8, a9, a10) (nI r) := by
  unfold wpX_total
  dsimp only
  refine cz_rep hr ?_
  refine br_f (by decide) ⟨4, cz_ts (o := 0) hr (by omega) hb.1.1 hb.2.1 h7.1 h8.1 (cz_ts (o := 1) hr (by omega) hb.1.2.1 hb.2.2.1 h7.2.1 h8.2.1 (cz_ts (o := 2) hr (by omega) hb.1.2.2 hb.2.2.2 h7.2.2 h8.2.2 (br_t (nI_le (a := 3) (b := 3) (by omega) (by decide)) ?_)))⟩
  rw [hv]
  exact H
theorem cz_e7 {x : Nat} (hx : x < 8) : nI x &&& 7 = nI x := by
  rw [pk_andN (show x < 2 ^ 32 by omega) 3 (by decide), Nat.mod_eq_of_lt (by omega)]
theorem cz_has1 {post : Int32 → Prop} {mm : Int32} {r x : Nat} (hr : r < 3) (hx : x < 8) (h : ¬ a9 (24 * r + 3 * x + 0) ≤ 0) (H : post 1) : wpX_has post (mm, a1, a2, a3, a4, a5, a6, a7, a8, a9, a10) (nI r) (nI x) := by
  unfold wpX_has
  dsimp only
  refine cz_rep hr ?_
  refine br_f (by decide) (nm_r (show _ = nI (24 * r + 3 * x) by rw [cz_e7 hx, cz_i24b]) ⟨1, ?_⟩)
  have e : nI (24 * r + 3 * x) + nI 0 = nI (24 * r + 3 * x + 0) := nI_add _ _
  have S : wX_has_24 post (nI (24 * r + 3 * x)) mm a1 a2 a3 a4 a5 a6 a7 a8 a9 a10 1 (nI 0) :=
    br_f (nI_ge (b := 3) (by omega) (by decide)) ⟨pk_in (24 * r + 3 * x + 0) 72 (by omega) e, br_f (by rw [e, nI_clamp (show 24 * r + 3 * x + 0 < 2 ^ 31 by omega)]; exact h) H⟩
  exact S
theorem cz_has0 {post : Int32 → Prop} {mm : Int32} {r x : Nat} (hr : r < 3) (hx : x < 8) (h : ∀ o, o < 3 → a9 (24 * r + 3 * x + o) ≤ 0) (H : post 0) : wpX_has post (mm, a1, a2, a3, a4, a5, a6, a7, a8, a9, a10) (nI r) (nI x) := by
  unfold wpX_has
  dsimp only
  refine cz_rep hr ?_
  refine br_f (by decide) (nm_r (show _ = nI (24 * r + 3 * x) by rw [cz_e7 hx, cz_i24b]) ?_)
  exact pk_loop (σ := Unit) (fun n i _ => wX_has_24 post (nI (24 * r + 3 * x)) mm a1 a2 a3 a4 a5 a6 a7 a8 a9 a10 n (nI i)) (fun _ _ => True) 3 0 () (by omega) trivial
    (fun n _ _ => br_t (nI_le (a := 3) (b := 3) (by omega) (by decide)) H)
    (fun n i _ hi _ hw => br_f (nI_ge (b := 3) hi (by decide)) ⟨pk_in (24 * r + 3 * x + i) 72 (by omega) (nI_add _ _), br_t (by rw [nI_add, nI_clamp (show 24 * r + 3 * x + i < 2 ^ 31 by omega)]; exact h i hi) (nm_r (nI_1 i) (hw () trivial))⟩)
end
end
section
section
variable {m k r e f : Nat} {S A SE CH AM SE' CH' : List (Nat × Int32)} {MB K C MB' K' C' : List Int32} {a9 : Nat → Int32} {T T' : Bool → Bool → Nat → Int32} {mm : Int32}
/-- a make up to its apply, over lists -/
theorem cz_mkL {post : Int32 → St2 → Prop} {s p2 v : Int32} (hm : m < 48) (hr : r < 3) (hk : k < 48) (h4 : cz_t MB r = nI k) (hv : cz_l AM (49 * r + k) + (if s = 3 then p2 else 0) = v)
    (hSE : (3 * m + 2, cz_t K (3 * r + 2)) :: (3 * m + 1, cz_t K (3 * r + 1)) :: (3 * m + 0, cz_t K (3 * r + 0)) :: SE = SE') (hCH : (49 * r + (k + 1), nI m) :: CH = CH') (lMB : MB.length = 3) (hMB : MB.set r (nI (k + 1)) = MB')
    (H : ∀ Q : St2 → Prop, (∀ (f : Int32) (b1 b2 b3 b4 b5 b6 b7 b8 b9 b10 : Nat → Int32), post f (f, b1, b2, b3, b4, b5, b6, b7, b8, b9, b10) → Q (f, b1, b2, b3, b4, b5, b6, b7, b8, b9, b10)) →
      wpX_apply Q (nI (m + 1), cz_l ((m, s) :: S), cz_l ((m, p2) :: A), cz_l SE', cz_t MB', cz_l CH', cz_l ((49 * r + (k + 1), v) :: AM), cz_t K, cz_t C, a9, fun _ => 0) (nI r) (nI m) (nI r) (nI (k + 1))) :
    wpX_make post (nI m, cz_l S, cz_l A, cz_l SE, cz_t MB, cz_l CH, cz_l AM, cz_t K, cz_t C, a9, fun _ => 0) (nI r) s p2 := by
  refine cz_mk hm hr hk h4 hv (fun Q hQ => ?_)
  rw [cz_tu (l := MB) (by omega) hMB]
  subst hSE hCH
  exact H Q hQ
theorem cz_add {post : Int32 → St2 → Prop} {p w : Int32} {x : Nat} {sel : Bool → Bool → Bool} (hp : p &&& 7 = nI x) (hx : x < 8) (hm : m < 48) (hr : r < 3) (hk : k < 48) (h4 : cz_t MB r = nI k) (hw : cz_l AM (49 * r + k) = w)
    (hSE : (3 * m + 2, cz_t K (3 * r + 2)) :: (3 * m + 1, cz_t K (3 * r + 1)) :: (3 * m + 0, cz_t K (3 * r + 0)) :: SE = SE') (hCH : (49 * r + (k + 1), nI m) :: CH = CH') (lMB : MB.length = 3) (hMB : MB.set r (nI (k + 1)) = MB') (lK : K.length = 9) (hK : K.set (3 * r + r) (nI (k + 1)) = K')
    (hs : ∀ y, decide (y = x) = sel (decide (y = e)) (decide (y = f))) (hT : ∀ b c i, i < 9 → T' b c i = if sel b c = true ∧ i = 3 * r + r then nI (k + 1) else T b c i) (hV : cz_V e f T a9)
    (H : ∀ b, cz_V e f T' b → post (nI (m + 1)) (nI (m + 1), cz_l ((m, 0) :: S), cz_l ((m, nI x) :: A), cz_l SE', cz_t MB', cz_l CH', cz_l ((49 * r + (k + 1), w) :: AM), cz_t K', cz_t C, b, fun _ => 0)) :
    wpX_add post (nI m, cz_l S, cz_l A, cz_l SE, cz_t MB, cz_l CH, cz_l AM, cz_t K, cz_t C, a9, fun _ => 0) (nI r) p := by
  unfold wpX_add
  rw [hp]
  refine cz_mkL hm hr hk h4 (show _ = w by rw [hw]; exact Int32.add_zero w) hSE hCH lMB hMB (fun Q hQ => cz_apAdd hr hm hr hx pk_us pk_us (hQ _ _ _ _ _ _ _ _ _ _ _ ?_))
  rw [cz_tu (l := K) (by omega) hK]
  exact H _ (cz_Vadd hr hx hr hs hT hV)
theorem cz_rem {post : Int32 → St2 → Prop} {p w : Int32} {x : Nat} {sel : Bool → Bool → Bool} (hp : p &&& 7 = nI x) (hx : x < 8) (hm : m < 48) (hr : r < 3) (hk : k < 48) (h4 : cz_t MB r = nI k) (hw : cz_l AM (49 * r + k) = w)
    (hSE : (3 * m + 2, cz_t K (3 * r + 2)) :: (3 * m + 1, cz_t K (3 * r + 1)) :: (3 * m + 0, cz_t K (3 * r + 0)) :: SE = SE') (hCH : (49 * r + (k + 1), nI m) :: CH = CH') (lMB : MB.length = 3) (hMB : MB.set r (nI (k + 1)) = MB') (lK : K.length = 9) (hK : K.set (3 * r + r) (nI (k + 1)) = K')
    (hs : ∀ y, decide (y = x) = sel (decide (y = e)) (decide (y = f))) (hT : ∀ b c i, i < 9 → T' b c i = if sel b c = true ∧ i / 3 = r then cz_D (cz_l SE') m (T b c i) (i % 3) else T b c i) (hV : cz_V e f T a9)
    (H : ∀ b, cz_V e f T' b → post (nI (m + 1)) (nI (m + 1), cz_l ((m, 1) :: S), cz_l ((m, nI x) :: A), cz_l SE', cz_t MB', cz_l CH', cz_l ((49 * r + (k + 1), w) :: AM), cz_t K', cz_t C, b, fun _ => 0)) :
    wpX_remove post (nI m, cz_l S, cz_l A, cz_l SE, cz_t MB, cz_l CH, cz_l AM, cz_t K, cz_t C, a9, fun _ => 0) (nI r) p := by
  unfold wpX_remove
  rw [hp]
  refine cz_mkL hm hr hk h4 (show _ = w by rw [hw]; exact Int32.add_zero w) hSE hCH lMB hMB (fun Q hQ => cz_apRem hr hm hr hx pk_us pk_us (fun b hb => hQ _ _ _ _ _ _ _ _ _ _ _ ?_))
  rw [cz_tu (l := K) (by omega) hK]
  exact H b (cz_Vdrop (X := fun y => y = x) (fun y _ => by rw [← hs y]; exact decide_eq_true_iff.symm) hT hV (fun q y o hq hy ho h => by rw [hb q y o hq hy ho, if_pos h]) (fun q y o hq hy ho h => by rw [hb q y o hq hy ho, if_neg h]))
theorem cz_cnt {post : Int32 → St2 → Prop} {p : Int32} (hm : m < 48) (hr : r < 3) (hk : k < 48) (h4 : cz_t MB r = nI k) (hw : cz_l AM (49 * r + k) = 0)
    (hSE : (3 * m + 2, cz_t K (3 * r + 2)) :: (3 * m + 1, cz_t K (3 * r + 1)) :: (3 * m + 0, cz_t K (3 * r + 0)) :: SE = SE') (hCH : (49 * r + (k + 1), nI m) :: CH = CH') (lMB : MB.length = 3) (hMB : MB.set r (nI (k + 1)) = MB') (lK : K.length = 9) (hK : K.set (3 * r + r) (nI (k + 1)) = K')
    (H : post (nI (m + 1)) (nI (m + 1), cz_l ((m, 3) :: S), cz_l ((m, p) :: A), cz_l SE', cz_t MB', cz_l CH', cz_l ((49 * r + (k + 1), p) :: AM), cz_t K', cz_t C, a9, fun _ => 0)) :
    wpX_count post (nI m, cz_l S, cz_l A, cz_l SE, cz_t MB, cz_l CH, cz_l AM, cz_t K, cz_t C, a9, fun _ => 0) (nI r) p := by
  unfold wpX_count
  refine cz_mkL hm hr hk h4 (show _ = p by rw [hw]; exact Int32.zero_add p) hSE hCH lMB hMB (fun Q hQ => cz_apCnt hr hm hr pk_us (hQ _ _ _ _ _ _ _ _ _ _ _ ?_))
  rw [cz_tu (l := K) (by omega) hK]
  exact H
theorem cz_rst {post : Int32 → St2 → Prop} {w : Int32} (hm : m < 48) (hr : r < 3) (hk : k < 48) (h4 : cz_t MB r = nI k) (hw : cz_l AM (49 * r + k) = w)
    (hSE : (3 * m + 2, cz_t K (3 * r + 2)) :: (3 * m + 1, cz_t K (3 * r + 1)) :: (3 * m + 0, cz_t K (3 * r + 0)) :: SE = SE') (hCH : (49 * r + (k + 1), nI m) :: CH = CH') (lMB : MB.length = 3) (hMB : MB.set r (nI (k + 1)) = MB') (lK : K.length = 9) (hK : K.set (3 * r + r) (nI (k + 1)) = K')
    (lC : C.length = 9) (hC : cz_c (cz_l SE') (cz_c (cz_l SE') (cz_c (cz_l SE') C (3 * r + 0) (3 * m + 0)) (3 * r + 1) (3 * m + 1)) (3 * r + 2) (3 * m + 2) = C')
    (hT : ∀ b c i, i < 9 → T' b c i = if (fun _ _ => true : Bool → Bool → Bool) b c = true ∧ i / 3 = r then cz_D (cz_l SE') m (T b c i) (i % 3) else T b c i) (hV : cz_V e f T a9)
    (H : ∀ b, cz_V e f T' b → post (nI (m + 1)) (nI (m + 1), cz_l ((m, 4) :: S), cz_l ((m, 0) :: A), cz_l SE', cz_t MB', cz_l CH', cz_l ((49 * r + (k + 1), w) :: AM), cz_t K', cz_t C', b, fun _ => 0)) :
    wpX_reset post (nI m, cz_l S, cz_l A, cz_l SE, cz_t MB, cz_l CH, cz_l AM, cz_t K, cz_t C, a9, fun _ => 0) (nI r) := by
  unfold wpX_reset
  refine cz_mkL hm hr hk h4 (show _ = w by rw [hw]; exact Int32.add_zero w) hSE hCH lMB hMB (fun Q hQ => cz_apRst hr hm hr lC pk_us (fun b hb => hQ _ _ _ _ _ _ _ _ _ _ _ ?_))
  rw [cz_tu (l := K) (by omega) hK, hC]
  exact H b (cz_Vdrop (X := fun _ => True) (sel := fun _ _ => true) (fun y _ => by simp) hT hV (fun q y o hq hy ho h => by rw [hb q y o hq hy ho, if_pos h.1]) (fun q y o hq hy ho h => by rw [hb q y o hq hy ho, if_neg (fun z => h ⟨z, trivial⟩)]))
theorem cz_dAdd {post : Int32 → St2 → Prop} {p t ch x : Nat} {sel : Bool → Bool → Bool} (hx : x < 8) (hp : p < 3) (ht : t < 3) (hk : k < 48) (hc : ch < 48) (h7 : cz_t K (3 * t + p) = nI k) (h4 : nI (k + 1) ≤ cz_t MB p) (h5 : cz_l CH (49 * p + (k + 1)) = nI ch) (hs3 : ∀ o, o < 3 → cz_l SE (3 * ch + o) ≤ cz_t K (3 * t + o))
    (h1 : cz_l S ch = 0) (h2 : cz_l A ch = nI x) (lK : K.length = 9) (hK : K.set (3 * t + p) (nI (k + 1)) = K')
    (hs : ∀ y, decide (y = x) = sel (decide (y = e)) (decide (y = f))) (hT : ∀ b c i, i < 9 → T' b c i = if sel b c = true ∧ i = 3 * t + p then nI (k + 1) else T b c i) (hV : cz_V e f T a9)
    (H : ∀ b, cz_V e f T' b → post 0 (mm, cz_l S, cz_l A, cz_l SE, cz_t MB, cz_l CH, cz_l AM, cz_t K', cz_t C, b, fun _ => 0)) :
    wpX_deliver post (mm, cz_l S, cz_l A, cz_l SE, cz_t MB, cz_l CH, cz_l AM, cz_t K, cz_t C, a9, fun _ => 0) (nI p) (nI t) := by
  refine cz_del hp ht hk hc h7 h4 h5 hs3 (fun Q hQ => cz_apAdd ht hc hp hx h1 h2 (hQ _ _ _ _ _ _ _ _ _ _ _ ?_))
  rw [cz_tu (l := K) (by omega) hK]
  exact H _ (cz_Vadd ht hx hp hs hT hV)
theorem cz_dRem {post : Int32 → St2 → Prop} {p t ch x : Nat} {sel : Bool → Bool → Bool} (hx : x < 8) (hp : p < 3) (ht : t < 3) (hk : k < 48) (hc : ch < 48) (h7 : cz_t K (3 * t + p) = nI k) (h4 : nI (k + 1) ≤ cz_t MB p) (h5 : cz_l CH (49 * p + (k + 1)) = nI ch) (hs3 : ∀ o, o < 3 → cz_l SE (3 * ch + o) ≤ cz_t K (3 * t + o))
    (h1 : cz_l S ch = 1) (h2 : cz_l A ch = nI x) (lK : K.length = 9) (hK : K.set (3 * t + p) (nI (k + 1)) = K')
    (hs : ∀ y, decide (y = x) = sel (decide (y = e)) (decide (y = f))) (hT : ∀ b c i, i < 9 → T' b c i = if sel b c = true ∧ i / 3 = t then cz_D (cz_l SE) ch (T b c i) (i % 3) else T b c i) (hV : cz_V e f T a9)
    (H : ∀ b, cz_V e f T' b → post 0 (mm, cz_l S, cz_l A, cz_l SE, cz_t MB, cz_l CH, cz_l AM, cz_t K', cz_t C, b, fun _ => 0)) :
    wpX_deliver post (mm, cz_l S, cz_l A, cz_l SE, cz_t MB, cz_l CH, cz_l AM, cz_t K, cz_t C, a9, fun _ => 0) (nI p) (nI t) := by
  refine cz_del hp ht hk hc h7 h4 h5 hs3 (fun Q hQ => cz_apRem ht hc hp hx h1 h2 (fun b hb => hQ _ _ _ _ _ _ _ _ _ _ _ ?_))
  rw [cz_tu (l := K) (by omega) hK]
  exact H b (cz_Vdrop (X := fun y => y = x) (fun y _ => by rw [← hs y]; exact decide_eq_true_iff.symm) hT hV (fun q y o hq hy ho h => by rw [hb q y o hq hy ho, if_pos h]) (fun q y o hq hy ho h => by rw [hb q y o hq hy ho, if_neg h]))
theorem cz_dCnt {post : Int32 → St2 → Prop} {p t ch : Nat} (hp : p < 3) (ht : t < 3) (hk : k < 48) (hc : ch < 48) (h7 : cz_t K (3 * t + p) = nI k) (h4 : nI (k + 1) ≤ cz_t MB p) (h5 : cz_l CH (49 * p + (k + 1)) = nI ch) (hs3 : ∀ o, o < 3 → cz_l SE (3 * ch + o) ≤ cz_t K (3 * t + o))
    (h1 : cz_l S ch = 3) (lK : K.length = 9) (hK : K.set (3 * t + p) (nI (k + 1)) = K')
    (H : post 0 (mm, cz_l S, cz_l A, cz_l SE, cz_t MB, cz_l CH, cz_l AM, cz_t K', cz_t C, a9, fun _ => 0)) :
    wpX_deliver post (mm, cz_l S, cz_l A, cz_l SE, cz_t MB, cz_l CH, cz_l AM, cz_t K, cz_t C, a9, fun _ => 0) (nI p) (nI t) := by
  refine cz_del hp ht hk hc h7 h4 h5 hs3 (fun Q hQ => cz_apCnt ht hc hp h1 (hQ _ _ _ _ _ _ _ _ _ _ _ ?_))
  rw [cz_tu (l := K) (by omega) hK]
  exact H
theorem cz_sync {post : Int32 → St2 → Prop} {p t : Nat} {a1 a2 a3 a4 a5 a6 : Nat → Int32} (hp : p < 3) (ht : t < 3) (hpt : p ≠ t) (lK : K.length = 9) (lC : C.length = 9) (hK : cz_j K p t = K') (hC : cz_j C p t = C')
    (hT : ∀ b c i, i < 9 → T' b c i = if i / 3 = t then cz_S (T b c i) (cz_t K i) (T b c (3 * p + i % 3)) (cz_t K (3 * p + i % 3)) else T b c i) (hV : cz_V e f T a9)
    (H : ∀ b, cz_V e f T' b → post 0 (mm, a1, a2, a3, a4, a5, a6, cz_t K', cz_t C', b, fun _ => 0)) :
    wpX_sync post (mm, a1, a2, a3, a4, a5, a6, cz_t K, cz_t C, a9, fun _ => 0) (nI p) (nI t) := by
  unfold wpX_sync
  dsimp only
  refine cz_rep hp ?_
  refine br_f (by decide) ?_
  refine cz_rep ht ?_
  refine br_f (by decide) (br_f (fun z => hpt ((nI_eq (by omega) (by omega)).mp z)) (cz_ja hp ht hpt (fun b hb => cz_js hp ht (cz_jv hp ht lK lC ?_))))
  rw [hK, hC]
  exact H b (cz_Vjoin hp ht hT hV hb)
/-- has at e: there -/
theorem cz_hE1 {post : Int32 → Prop} {a1 a2 a3 a4 a5 a6 a7 a8 a10 : Nat → Int32} (he : e < 8) (hr : r < 3) (hV : cz_V e f T a9) (h : ∀ c, ¬ T true c (3 * r + 0) ≤ 0) (H : post 1) : wpX_has post (mm, a1, a2, a3, a4, a5, a6, a7, a8, a9, a10) (nI r) (nI e) :=
  cz_has1 hr he (by rw [hV r e 0 hr he (by omega), show decide (e = e) = true from decide_eq_true rfl]; exact h _) H
/-- has at e: not there -/
theorem cz_hE0 {post : Int32 → Prop} {a1 a2 a3 a4 a5 a6 a7 a8 a10 : Nat → Int32} (he : e < 8) (hr : r < 3) (hV : cz_V e f T a9) (h : ∀ c o, o < 3 → T true c (3 * r + o) ≤ 0) (H : post 0) : wpX_has post (mm, a1, a2, a3, a4, a5, a6, a7, a8, a9, a10) (nI r) (nI e) :=
  cz_has0 hr he (fun o ho => by rw [hV r e o hr he ho, show decide (e = e) = true from decide_eq_true rfl]; exact h _ o ho) H
/-- has at f: there -/
theorem cz_hF1 {post : Int32 → Prop} {a1 a2 a3 a4 a5 a6 a7 a8 a10 : Nat → Int32} (hf : f < 8) (hr : r < 3) (hV : cz_V e f T a9) (h : ∀ b, ¬ T b true (3 * r + 0) ≤ 0) (H : post 1) : wpX_has post (mm, a1, a2, a3, a4, a5, a6, a7, a8, a9, a10) (nI r) (nI f) :=
  cz_has1 hr hf (by rw [hV r f 0 hr hf (by omega), show decide (f = f) = true from decide_eq_true rfl]; exact h _) H
/-- has at f: not there -/
theorem cz_hF0 {post : Int32 → Prop} {a1 a2 a3 a4 a5 a6 a7 a8 a10 : Nat → Int32} (hf : f < 8) (hr : r < 3) (hV : cz_V e f T a9) (h : ∀ b o, o < 3 → T b true (3 * r + o) ≤ 0) (H : post 0) : wpX_has post (mm, a1, a2, a3, a4, a5, a6, a7, a8, a9, a10) (nI r) (nI f) :=
  cz_has0 hr hf (fun o ho => by rw [hV r f o hr hf ho, show decide (f = f) = true from decide_eq_true rfl]; exact h _ o ho) H
/-- has at e: there if e is f -/
theorem cz_hEq {post : Int32 → Prop} {a1 a2 a3 a4 a5 a6 a7 a8 a10 : Nat → Int32} (he : e < 8) (hr : r < 3) (hV : cz_V e f T a9) (h1 : ¬ T true true (3 * r + 0) ≤ 0) (h0 : ∀ o, o < 3 → T true false (3 * r + o) ≤ 0) (H1 : e = f → post 1) (H0 : e ≠ f → post 0) : wpX_has post (mm, a1, a2, a3, a4, a5, a6, a7, a8, a9, a10) (nI r) (nI e) := by
  by_cases g : e = f
  · exact cz_has1 hr he (by rw [hV r e 0 hr he (by omega), show decide (e = e) = true from decide_eq_true rfl, show decide (e = f) = true from decide_eq_true g]; exact h1) (H1 g)
  · exact cz_has0 hr he (fun o ho => by rw [hV r e o hr he ho, show decide (e = e) = true from decide_eq_true rfl, show decide (e = f) = false from decide_eq_false g]; exact h0 o ho) (H0 g)
/-- has at f: there if e is f -/
theorem cz_hFq {post : Int32 → Prop} {a1 a2 a3 a4 a5 a6 a7 a8 a10 : Nat → Int32} (hf : f < 8) (hr : r < 3) (hV : cz_V e f T a9) (h1 : ¬ T true true (3 * r + 0) ≤ 0) (h0 : ∀ o, o < 3 → T false true (3 * r + o) ≤ 0) (H1 : e = f → post 1) (H0 : e ≠ f → post 0) : wpX_has post (mm, a1, a2, a3, a4, a5, a6, a7, a8, a9, a10) (nI r) (nI f) := by
  by_cases g : e = f
  · exact cz_has1 hr hf (by rw [hV r f 0 hr hf (by omega), show decide (f = f) = true from decide_eq_true rfl, show decide (f = e) = true from decide_eq_true g.symm]; exact h1) (H1 g)
  · exact cz_has0 hr hf (fun o ho => by rw [hV r f o hr hf ho, show decide (f = f) = true from decide_eq_true rfl, show decide (f = e) = false from decide_eq_false (fun z => g z.symm)]; exact h0 o ho) (H0 g)
end
end
section
theorem cz_522 {post : Int32 → St0 → Prop} {mc ms kc ks e f : Nat} {le z a b c : Int32} {a9 : Nat → Int32} (hp : post 1 ()) (he : e < 8) (hf : f < 8) (hV : cz_V e f (cz_q [4, 0, 0, 4, 0, 0, 0, 0, 0] [0, 0, 0, 0, 0, 0, 0, 0, 0] [4, 0, 0, 4, 0, 0, 0, 0, 0]) a9) :
    wL_lawOf_522 post mc ms (nI e) z z kc ks (nI 8) (cz_l [(7, 0), (6, 3), (5, 4), (4, 3), (3, 0), (2, 1), (1, 3), (0, 0)]) (cz_l [(7, nI e), (6, c), (5, 0), (4, b), (3, nI f), (2, nI e), (1, a), (0, nI e)]) (cz_l [(23, 0), (22, 0), (21, 3), (20, 0), (19, 1), (18, 2), (17, 1), (16, 1), (15, 3), (14, 0), (13, 0), (12, 0), (11, 0), (10, 0), (9, 2), (8, 0), (7, 0), (6, 2), (5, 0), (4, 0), (3, 1), (2, 0), (1, 0), (0, 0)]) (cz_t [4, 2, 2]) (cz_l [(4, 7), (51, 6), (100, 5), (99, 4), (3, 3), (50, 2), (2, 1), (1, 0)]) (cz_l [(4, a), (51, c), (100, b), (99, b), (3, a), (50, 0), (2, a), (1, 0)]) (cz_t [4, 2, 2, 4, 2, 2, 3, 1, 2]) (cz_t [3, 1, 1, 3, 1, 1, 3, 1, 1]) a9 (fun _ => 0) := by
  refine br_t rfl ?_
  refine cz_hE1 (r := 0) he (by decide) hV (by decide) (br_t rfl ?_)
  refine cz_known (r := 0) (o := 2) (by decide) (by decide) (br_t rfl ?_)
  exact hp
theorem cz_464 {post : Int32 → St0 → Prop} {mc ms kc ks e f : Nat} {le z a b c : Int32} {a9 : Nat → Int32} (hp : post 1 ()) (he : e < 8) (hf : f < 8) (hV : cz_V e f (cz_q [4, 0, 0, 4, 0, 0, 0, 0, 0] [3, 0, 0, 0, 0, 0, 0, 0, 0] [4, 0, 0, 4, 0, 0, 0, 0, 0]) a9) :
    wL_lawOf_464 post mc ms a c (nI e) (nI f) z z kc ks (nI 8) (cz_l [(7, 0), (6, 3), (5, 4), (4, 3), (3, 0), (2, 1), (1, 3), (0, 0)]) (cz_l [(7, nI e), (6, c), (5, 0), (4, b), (3, nI f), (2, nI e), (1, a), (0, nI e)]) (cz_l [(23, 0), (22, 0), (21, 3), (20, 0), (19, 1), (18, 2), (17, 1), (16, 1), (15, 3), (14, 0), (13, 0), (12, 0), (11, 0), (10, 0), (9, 2), (8, 0), (7, 0), (6, 2), (5, 0), (4, 0), (3, 1), (2, 0), (1, 0), (0, 0)]) (cz_t [4, 2, 2]) (cz_l [(4, 7), (51, 6), (100, 5), (99, 4), (3, 3), (50, 2), (2, 1), (1, 0)]) (cz_l [(4, a), (51, c), (100, b), (99, b), (3, a), (50, 0), (2, a), (1, 0)]) (cz_t [4, 0, 0, 4, 2, 2, 3, 1, 2]) (cz_t [0, 0, 0, 3, 1, 1, 3, 1, 1]) a9 (fun _ => 0) := by
  refine br_t rfl ?_
  refine cz_total (r := 0) (v := a) 4 0 0 0 0 0 (by decide) (by decide) ⟨rfl, rfl, rfl⟩ ⟨rfl, rfl, rfl⟩ (show (0 : Int32) + (a - 0) + (0 - 0) + (0 - 0) = a by grind) (br_t rfl ?_)
  refine cz_sync (p := 1) (t := 0) (K' := [4, 2, 2, 4, 2, 2, 3, 1, 2]) (C' := [3, 1, 1, 3, 1, 1, 3, 1, 1]) (T' := (cz_q [4, 0, 0, 4, 0, 0, 0, 0, 0] [0, 0, 0, 0, 0, 0, 0, 0, 0] [4, 0, 0, 4, 0, 0, 0, 0, 0])) (by decide) (by decide) (by decide) rfl rfl (by decide +kernel) (by decide +kernel) (by decide +kernel) hV (fun a9 hV => br_t rfl ?_)
  refine cz_total (r := 0) (v := c) 4 2 2 3 1 1 (by decide) (by decide) ⟨rfl, rfl, rfl⟩ ⟨rfl, rfl, rfl⟩ (show (0 : Int32) + (a - a) + (c - 0) + (b - b) = c by grind) (br_t rfl ?_)
  refine cz_hFq (r := 0) hf (by decide) hV (by decide) (by decide) (fun g => br_t (congrArg nI g) ?_) (fun g => br_f (fun z => g ((nI_eq (by omega) (by omega)).mp z)) ?_)
  · exact cz_522 (le := le) (b := b) hp he hf hV
  · exact cz_522 (le := le) (b := b) hp he hf hV
theorem cz_305 {post : Int32 → St0 → Prop} {mc ms kc ks e f : Nat} {le z a b c : Int32} {a9 : Nat → Int32} (hp : post 1 ()) (he : e < 8) (hf : f < 8) (hle : le &&& 7 = nI e) (hV : cz_V e f (cz_q [1, 0, 0, 0, 0, 0, 0, 0, 0] [3, 0, 0, 0, 0, 0, 3, 0, 0] [3, 0, 0, 0, 0, 0, 3, 0, 0]) a9) :
    wL_lawOf_305 post mc ms le a c (nI e) (nI f) z z kc ks (nI 5) (cz_l [(4, 3), (3, 0), (2, 1), (1, 3), (0, 0)]) (cz_l [(4, b), (3, nI f), (2, nI e), (1, a), (0, nI e)]) (cz_l [(14, 0), (13, 0), (12, 0), (11, 0), (10, 0), (9, 2), (8, 0), (7, 0), (6, 2), (5, 0), (4, 0), (3, 1), (2, 0), (1, 0), (0, 0)]) (cz_t [3, 1, 1]) (cz_l [(99, 4), (3, 3), (50, 2), (2, 1), (1, 0)]) (cz_l [(99, b), (3, a), (50, 0), (2, a), (1, 0)]) (cz_t [3, 0, 0, 2, 1, 0, 3, 1, 1]) (cz_t [0, 0, 0, 0, 0, 0, 0, 0, 0]) a9 (fun _ => 0) := by
  refine br_t rfl ?_
  refine cz_known (r := 2) (o := 0) (by decide) (by decide) (br_t rfl ?_)
  refine cz_rst (m := 5) (r := 2) (k := 1) (SE' := [(17, 1), (16, 1), (15, 3), (14, 0), (13, 0), (12, 0), (11, 0), (10, 0), (9, 2), (8, 0), (7, 0), (6, 2), (5, 0), (4, 0), (3, 1), (2, 0), (1, 0), (0, 0)]) (CH' := [(100, 5), (99, 4), (3, 3), (50, 2), (2, 1), (1, 0)]) (MB' := [3, 1, 2]) (K' := [3, 0, 0, 2, 1, 0, 3, 1, 2]) (w := b) (C' := [0, 0, 0, 0, 0, 0, 3, 1, 1]) (T' := (cz_q [1, 0, 0, 0, 0, 0, 0, 0, 0] [3, 0, 0, 0, 0, 0, 0, 0, 0] [3, 0, 0, 0, 0, 0, 0, 0, 0])) (by decide) (by decide) (by decide) rfl rfl rfl rfl rfl rfl rfl rfl rfl (by decide +kernel) (by decide +kernel) hV (fun a9 hV => br_t rfl ?_)
  refine cz_total (r := 2) (v := 0) 3 1 2 3 1 1 (by decide) (by decide) ⟨rfl, rfl, rfl⟩ ⟨rfl, rfl, rfl⟩ (show (0 : Int32) + (a - a) + (0 - 0) + (b - b) = 0 by grind) (br_t rfl ?_)
  refine cz_hF0 (r := 2) hf (by decide) hV (by decide) (br_t rfl ?_)
  refine cz_cnt (m := 6) (r := 1) (k := 1) (SE' := [(20, 0), (19, 1), (18, 2), (17, 1), (16, 1), (15, 3), (14, 0), (13, 0), (12, 0), (11, 0), (10, 0), (9, 2), (8, 0), (7, 0), (6, 2), (5, 0), (4, 0), (3, 1), (2, 0), (1, 0), (0, 0)]) (CH' := [(51, 6), (100, 5), (99, 4), (3, 3), (50, 2), (2, 1), (1, 0)]) (MB' := [3, 2, 2]) (K' := [3, 0, 0, 2, 2, 0, 3, 1, 2]) (by decide) (by decide) (by decide) rfl rfl rfl rfl rfl rfl rfl rfl (br_t rfl ?_)
  refine cz_sync (p := 2) (t := 1) (K' := [3, 0, 0, 3, 2, 2, 3, 1, 2]) (C' := [0, 0, 0, 3, 1, 1, 3, 1, 1]) (T' := (cz_q [1, 0, 0, 0, 0, 0, 0, 0, 0] [3, 0, 0, 0, 0, 0, 0, 0, 0] [3, 0, 0, 0, 0, 0, 0, 0, 0])) (by decide) (by decide) (by decide) rfl rfl (by decide +kernel) (by decide +kernel) (by decide +kernel) hV (fun a9 hV => br_t rfl ?_)
  refine cz_total (r := 1) (v := c) 3 2 2 3 1 1 (by decide) (by decide) ⟨rfl, rfl, rfl⟩ ⟨rfl, rfl, rfl⟩ (show (0 : Int32) + (a - a) + (c - 0) + (b - b) = c by grind) (br_t rfl ?_)
  refine cz_hF0 (r := 1) hf (by decide) hV (by decide) (br_t rfl ?_)
  refine cz_values (r := 1) (by decide) (br_t rfl ?_)
  refine cz_add (m := 7) (r := 0) (k := 3) (SE' := [(23, 0), (22, 0), (21, 3), (20, 0), (19, 1), (18, 2), (17, 1), (16, 1), (15, 3), (14, 0), (13, 0), (12, 0), (11, 0), (10, 0), (9, 2), (8, 0), (7, 0), (6, 2), (5, 0), (4, 0), (3, 1), (2, 0), (1, 0), (0, 0)]) (CH' := [(4, 7), (51, 6), (100, 5), (99, 4), (3, 3), (50, 2), (2, 1), (1, 0)]) (MB' := [4, 2, 2]) (K' := [4, 0, 0, 3, 2, 2, 3, 1, 2]) (w := a) (sel := (fun b _ => b)) (T' := (cz_q [4, 0, 0, 0, 0, 0, 0, 0, 0] [3, 0, 0, 0, 0, 0, 0, 0, 0] [4, 0, 0, 0, 0, 0, 0, 0, 0])) hle he (by decide) (by decide) (by decide) rfl rfl rfl rfl rfl rfl rfl rfl (fun _ => rfl) (by decide +kernel) hV (fun a9 hV => br_t rfl ?_)
  refine cz_sync (p := 0) (t := 1) (K' := [4, 0, 0, 4, 2, 2, 3, 1, 2]) (C' := [0, 0, 0, 3, 1, 1, 3, 1, 1]) (T' := (cz_q [4, 0, 0, 4, 0, 0, 0, 0, 0] [3, 0, 0, 0, 0, 0, 0, 0, 0] [4, 0, 0, 4, 0, 0, 0, 0, 0])) (by decide) (by decide) (by decide) rfl rfl (by decide +kernel) (by decide +kernel) (by decide +kernel) hV (fun a9 hV => br_t rfl ?_)
  refine cz_hE1 (r := 1) he (by decide) hV (by decide) (br_t rfl ?_)
  refine cz_hFq (r := 1) hf (by decide) hV (by decide) (by decide) (fun g => br_t (congrArg nI g) ?_) (fun g => br_f (fun z => g ((nI_eq (by omega) (by omega)).mp z)) ?_)
  · exact cz_464 (le := le) (b := b) hp he hf hV
  · exact cz_464 (le := le) (b := b) hp he hf hV
theorem cz_start {post : Int32 → St2 → Prop} {p : Int32} (H : wpX_add post (nI 0, cz_l [], cz_l [], cz_l [], cz_t [0, 0, 0], cz_l [], cz_l [], cz_t [0, 0, 0, 0, 0, 0, 0, 0, 0], cz_t [0, 0, 0, 0, 0, 0, 0, 0, 0], (fun _ => 0), (fun _ => 0)) (nI 0) p) : wpX_add post (0, (fun _ => 0), (fun _ => 0), (fun _ => 0), (fun _ => 0), (fun _ => 0), (fun _ => 0), (fun _ => 0), (fun _ => 0), (fun _ => 0), (fun _ => 0)) 0 p := by
  rw [cz_z3, cz_z9] at H
  exact H
theorem cz_lawOf {post : Int32 → St0 → Prop} (hp : post 1 ()) (le lf a b c : Int32) : wpL_lawOf post 348 5568 () le lf a b c := by
  obtain ⟨e, he, hle⟩ := pk_andE le (m := 7) 3 (by decide)
  obtain ⟨f, hf, hlf⟩ := pk_andE lf (m := 7) 3 (by decide)
  replace he : e < 8 := he
  replace hf : f < 8 := hf
  have hV := cz_V0 e f
  refine ⟨by decide, by decide, 10, 636, by decide, by decide, by decide, by decide, by decide, by decide, by decide, by decide, by decide, by decide, by decide, by decide, by decide, by decide, by decide, by decide, by decide, by decide, by decide, by decide, by decide, by decide, ?_⟩
  refine nm_r hle (nm_r hlf (cz_start ?_))
  refine cz_add (m := 0) (r := 0) (k := 0) (SE' := [(2, 0), (1, 0), (0, 0)]) (CH' := [(1, 0)]) (MB' := [1, 0, 0]) (K' := [1, 0, 0, 0, 0, 0, 0, 0, 0]) (w := 0) (sel := (fun b _ => b)) (T' := (cz_q [1, 0, 0, 0, 0, 0, 0, 0, 0] [0, 0, 0, 0, 0, 0, 0, 0, 0] [1, 0, 0, 0, 0, 0, 0, 0, 0])) hle he (by decide) (by decide) (by decide) rfl rfl rfl rfl rfl rfl rfl rfl (fun _ => rfl) (by decide +kernel) hV (fun a9 hV => br_t rfl ?_)
  refine cz_cnt (m := 1) (r := 0) (k := 1) (SE' := [(5, 0), (4, 0), (3, 1), (2, 0), (1, 0), (0, 0)]) (CH' := [(2, 1), (1, 0)]) (MB' := [2, 0, 0]) (K' := [2, 0, 0, 0, 0, 0, 0, 0, 0]) (by decide) (by decide) (by decide) rfl rfl rfl rfl rfl rfl rfl rfl (br_t rfl ?_)
  refine cz_sync (p := 0) (t := 1) (K' := [2, 0, 0, 2, 0, 0, 0, 0, 0]) (C' := [0, 0, 0, 0, 0, 0, 0, 0, 0]) (T' := (cz_q [1, 0, 0, 1, 0, 0, 0, 0, 0] [0, 0, 0, 0, 0, 0, 0, 0, 0] [1, 0, 0, 1, 0, 0, 0, 0, 0])) (by decide) (by decide) (by decide) rfl rfl (by decide +kernel) (by decide +kernel) (by decide +kernel) hV (fun a9 hV => br_t rfl ?_)
  refine cz_hE1 (r := 1) he (by decide) hV (by decide) (br_t rfl ?_)
  refine cz_total (r := 1) (v := a) 2 0 0 0 0 0 (by decide) (by decide) ⟨rfl, rfl, rfl⟩ ⟨rfl, rfl, rfl⟩ (show (0 : Int32) + (a - 0) + (0 - 0) + (0 - 0) = a by grind) (br_t rfl ?_)
  refine cz_rem (m := 2) (r := 1) (k := 0) (SE' := [(8, 0), (7, 0), (6, 2), (5, 0), (4, 0), (3, 1), (2, 0), (1, 0), (0, 0)]) (CH' := [(50, 2), (2, 1), (1, 0)]) (MB' := [2, 1, 0]) (K' := [2, 0, 0, 2, 1, 0, 0, 0, 0]) (w := 0) (sel := (fun b _ => b)) (T' := (cz_q [1, 0, 0, 0, 0, 0, 0, 0, 0] [0, 0, 0, 0, 0, 0, 0, 0, 0] [1, 0, 0, 0, 0, 0, 0, 0, 0])) hle he (by decide) (by decide) (by decide) rfl rfl rfl rfl rfl rfl rfl rfl (fun _ => rfl) (by decide +kernel) hV (fun a9 hV => br_t rfl ?_)
  refine cz_add (m := 3) (r := 0) (k := 2) (SE' := [(11, 0), (10, 0), (9, 2), (8, 0), (7, 0), (6, 2), (5, 0), (4, 0), (3, 1), (2, 0), (1, 0), (0, 0)]) (CH' := [(3, 3), (50, 2), (2, 1), (1, 0)]) (MB' := [3, 1, 0]) (K' := [3, 0, 0, 2, 1, 0, 0, 0, 0]) (w := a) (sel := (fun _ c => c)) (T' := (cz_q [1, 0, 0, 0, 0, 0, 0, 0, 0] [3, 0, 0, 0, 0, 0, 0, 0, 0] [3, 0, 0, 0, 0, 0, 0, 0, 0])) hlf hf (by decide) (by decide) (by decide) rfl rfl rfl rfl rfl rfl rfl rfl (fun _ => rfl) (by decide +kernel) hV (fun a9 hV => br_t rfl ?_)
  refine cz_cnt (m := 4) (r := 2) (k := 0) (SE' := [(14, 0), (13, 0), (12, 0), (11, 0), (10, 0), (9, 2), (8, 0), (7, 0), (6, 2), (5, 0), (4, 0), (3, 1), (2, 0), (1, 0), (0, 0)]) (CH' := [(99, 4), (3, 3), (50, 2), (2, 1), (1, 0)]) (MB' := [3, 1, 1]) (K' := [3, 0, 0, 2, 1, 0, 0, 0, 1]) (by decide) (by decide) (by decide) rfl rfl rfl rfl rfl rfl rfl rfl (br_t rfl ?_)
  refine cz_hE0 (r := 1) he (by decide) hV (by decide) (br_t rfl ?_)
  refine cz_hE1 (r := 0) he (by decide) hV (by decide) (br_t rfl ?_)
  refine cz_total (r := 2) (v := b) 0 0 1 0 0 0 (by decide) (by decide) ⟨rfl, rfl, rfl⟩ ⟨rfl, rfl, rfl⟩ (show (0 : Int32) + (0 - 0) + (0 - 0) + (b - 0) = b by grind) (br_t rfl ?_)
  refine cz_del2 (p := 1) (t := 2) (k := 0) (ch := 2) (by decide) (by decide) (by decide) (by decide) rfl (by decide) rfl (by decide) (br_t rfl ?_)
  refine cz_known (r := 2) (o := 1) (by decide) (by decide) (br_t rfl ?_)
  refine cz_dAdd (p := 0) (t := 2) (k := 0) (ch := 0) (K' := [3, 0, 0, 2, 1, 0, 1, 0, 1]) (sel := (fun b _ => b)) (T' := (cz_q [1, 0, 0, 0, 0, 0, 1, 0, 0] [3, 0, 0, 0, 0, 0, 0, 0, 0] [3, 0, 0, 0, 0, 0, 1, 0, 0])) he (by decide) (by decide) (by decide) (by decide) rfl (by decide) rfl (by decide +kernel) rfl rfl rfl rfl (fun _ => rfl) (by decide +kernel) hV (fun a9 hV => br_t rfl ?_)
  refine cz_del2 (p := 1) (t := 2) (k := 0) (ch := 2) (by decide) (by decide) (by decide) (by decide) rfl (by decide) rfl (by decide) (br_t rfl ?_)
  refine cz_hE1 (r := 2) he (by decide) hV (by decide) (br_t rfl ?_)
  refine cz_dCnt (p := 0) (t := 2) (k := 1) (ch := 1) (K' := [3, 0, 0, 2, 1, 0, 2, 0, 1]) (by decide) (by decide) (by decide) (by decide) rfl (by decide) rfl (by decide +kernel) rfl rfl rfl (br_t rfl ?_)
  refine cz_total (r := 2) (v := (a + b)) 2 0 1 0 0 0 (by decide) (by decide) ⟨rfl, rfl, rfl⟩ ⟨rfl, rfl, rfl⟩ (show (0 : Int32) + (a - 0) + (0 - 0) + (b - 0) = (a + b) by grind) (br_t rfl ?_)
  refine cz_dRem (p := 1) (t := 2) (k := 0) (ch := 2) (K' := [3, 0, 0, 2, 1, 0, 2, 1, 1]) (sel := (fun b _ => b)) (T' := (cz_q [1, 0, 0, 0, 0, 0, 0, 0, 0] [3, 0, 0, 0, 0, 0, 0, 0, 0] [3, 0, 0, 0, 0, 0, 0, 0, 0])) he (by decide) (by decide) (by decide) (by decide) rfl (by decide) rfl (by decide +kernel) rfl rfl rfl rfl (fun _ => rfl) (by decide +kernel) hV (fun a9 hV => br_t rfl ?_)
  refine cz_hE0 (r := 2) he (by decide) hV (by decide) (br_t rfl ?_)
  refine cz_dAdd (p := 0) (t := 2) (k := 2) (ch := 3) (K' := [3, 0, 0, 2, 1, 0, 3, 1, 1]) (sel := (fun _ c => c)) (T' := (cz_q [1, 0, 0, 0, 0, 0, 0, 0, 0] [3, 0, 0, 0, 0, 0, 3, 0, 0] [3, 0, 0, 0, 0, 0, 3, 0, 0])) hf (by decide) (by decide) (by decide) (by decide) rfl (by decide) rfl (by decide +kernel) rfl rfl rfl rfl (fun _ => rfl) (by decide +kernel) hV (fun a9 hV => br_t rfl ?_)
  refine cz_del1 (p := 0) (t := 2) (k := 3) (by decide) (by decide) rfl (by decide) (br_t rfl ?_)
  refine cz_hF1 (r := 2) hf (by decide) hV (by decide) (br_t rfl ?_)
  refine cz_hEq (r := 2) he (by decide) hV (by decide) (by decide) (fun g => br_t (congrArg nI g) ?_) (fun g => br_f (fun z => g ((nI_eq (by omega) (by omega)).mp z)) ?_)
  · exact cz_305 (b := b) hp he hf hle hV
  · exact cz_305 (b := b) hp he hf hle hV
end
section
theorem cz_cell {post : Int32 → Prop} {xs : Nat → Int32} {L i : Nat} (hL : L ≤ 5) (hi : i < 5) (H : ∀ v, post v) : wpL_cellAt post L xs () (nI i) :=
  pk_le L i (fun _ => H 0) (fun z => ⟨pk_in i L z, H _⟩)
theorem i_vc (xs : Nat → Int32) (L : Nat) (hL : L ≤ 5) : wpL_law (fun r => r = 1) L xs :=
  cz_cell (i := 0) hL (by decide) fun v0 => cz_cell (i := 1) hL (by decide) fun v1 => cz_cell (i := 2) hL (by decide) fun v2 => cz_cell (i := 3) hL (by decide) fun v3 => cz_cell (i := 4) hL (by decide) fun v4 => ⟨348, 5568, by decide, by decide, cz_lawOf rfl v0 v1 v2 v3 v4⟩
end
