section
/-! ===== arrays that hold the lists of a picture ===== -/
/-- the list l lies in the array a from place 0 on, each entry as g says -/
def qm_ar {α : Type} (g : α → Int32) (a : Nat → Int32) (l : List α) : Prop := ∀ i x, l[i]? = some x → a i = g x
section
variable {α : Type} {g : α → Int32} {a : Nat → Int32} {l l' : List α} {x y : α} {v : Int32} {k : Nat}
theorem qm_ar_nil : qm_ar g a [] := fun i x h => by simp at h
theorem qm_lt {i : Nat} (h : l[i]? = some x) : i < l.length := (List.getElem?_eq_some_iff.mp h).1
theorem qm_ar_push (h : qm_ar g a l) (hv : v = g x) : qm_ar g (upd a l.length v) (l ++ [x]) := by
  intro i y hy
  have hi := qm_lt hy
  rw [List.length_append, List.length_singleton] at hi
  by_cases e : i = l.length
  · subst e
    rw [pk_us, hv]
    rw [List.getElem?_concat_length] at hy
    injection hy with hy
    rw [hy]
  · rw [pk_un e]
    rw [List.getElem?_append_left (by omega)] at hy
    exact h i y hy
theorem qm_ar_pre (h : qm_ar g a (l ++ l')) : qm_ar g a l := fun i x hx => h i x (by
  rw [List.getElem?_append_left (qm_lt hx)]
  exact hx)
theorem qm_ar_top (h : qm_ar g a (l ++ [x])) : a l.length = g x := h _ _ List.getElem?_concat_length
theorem qm_ar_set (h : qm_ar g a l) (hv : v = g x) : qm_ar g (upd a k v) (l.set k x) := by
  intro i y hy
  rw [List.getElem?_set] at hy
  by_cases e : k = i
  · subst e
    rw [if_pos rfl] at hy
    rw [pk_us, hv]
    split at hy
    · injection hy with hy
      rw [hy]
    · cases hy
  · rw [if_neg e] at hy
    rw [pk_un (fun z => e z.symm)]
    exact h i y hy
theorem qm_ar_set' (h : qm_ar g a l) (hk : l[k]? = some y) (hv : g y = g x) : qm_ar g a (l.set k x) := by
  intro i z hz
  rw [List.getElem?_set] at hz
  by_cases e : k = i
  · subst e
    rw [if_pos rfl] at hz
    split at hz
    · injection hz with hz
      rw [← hz, ← hv]
      exact h k y hk
    · cases hz
  · rw [if_neg e] at hz
    exact h i z hz
theorem qm_st_push (h : qm_ar g a l.reverse) (hv : v = g x) : qm_ar g (upd a l.length v) (x :: l).reverse := by
  have t := qm_ar_push h hv
  rw [List.length_reverse] at t
  rw [List.reverse_cons]
  exact t
theorem qm_st_pop (h : qm_ar g a (x :: l).reverse) : qm_ar g a l.reverse := by
  rw [List.reverse_cons] at h
  exact qm_ar_pre h
theorem qm_st_top (h : qm_ar g a (x :: l).reverse) : a l.length = g x := by
  rw [List.reverse_cons] at h
  have t := qm_ar_top h
  rw [List.length_reverse] at t
  exact t
theorem qm_len : nI l.length + 1 = nI (l ++ [x]).length := by
  rw [List.length_append]
  exact nI_1 _
theorem qm_len' : nI (l.length + 1) = nI (l ++ [x]).length := by
  rw [List.length_append]
  rfl
end
theorem qm_s2 (n : Nat) : nI (n + 2) - 2 = nI n := by
  have t := pk_sub (a := n + 2) (b := 2) (by omega)
  rw [Nat.add_sub_cancel] at t
  exact t
theorem qm_s1 (n : Nat) : nI (n + 2) - 1 = nI (n + 1) := nI_pred (n + 1)
/-- a counter that runs down to -1 -/
def qm_dn : Nat → Int32
  | 0 => -1
  | c + 1 => nI c
theorem qm_dn1 (c : Nat) : nI c + (-1) = qm_dn c := by
  cases c with
  | zero => rfl
  | succ c => exact pk_m1 c
/-! ===== the compiler as a plain function over lists (none: a road that no program of the law takes) ===== -/
abbrev qm_N : Type := Nat × Nat × Nat
/-- place in the source, nodes, trees (the last first), waiting operators (the last first), brackets pending -/
abbrev qm_Q : Type := Nat × List qm_N × List Nat × List Nat × Nat
def qm_rank (w : Nat) : Nat := if w = 3 ∨ w = 4 then 1 else if 5 ≤ w ∧ w ≤ 7 then 2 else 0
def qm_red : List qm_N → List Nat → List Nat → Option (List qm_N × List Nat × List Nat)
  | ns, y :: x :: ts, w :: ws => if (3 ≤ w ∧ w ≤ 7) ∧ ns.length < 90 ∧ ts.length < 90 ∧ ws.length < 90 then some (ns ++ [(w, x, y)], ns.length :: ts, ws) else none
  | _, _, _ => none
def qm_rto (least : Nat) : Nat → List qm_N → List Nat → List Nat → Option (List qm_N × List Nat × List Nat)
  | 0, _, _, _ => none
  | k + 1, ns, ts, ws => match ws with
    | [] => some (ns, ts, [])
    | w :: ws => if w ≤ 9 ∧ ws.length < 90 then (if qm_rank w < least then some (ns, ts, w :: ws) else match qm_red ns ts (w :: ws) with
      | none => none
      | some (ns', ts', ws') => qm_rto least k ns' ts' ws') else none
def qm_fd : List Nat → Bool
  | [] => true
  | w :: ws => decide ((w ≤ 7 ∨ w = 9) ∧ ws.length < 90)
def qm_leaf (k x : Nat) : qm_Q → Option qm_Q
  | (t, ns, ts, ws, i) => if ns.length < 90 ∧ ts.length < 90 ∧ qm_fd ws = true then some (t + 1, ns ++ [(k, x, 0)], ns.length :: ts, ws, i) else none
def qm_opd (sr : List Nat) : qm_Q → Option (Bool × qm_Q)
  | (t, ns, ts, ws, i) => match sr[t]? with
    | none => none
    | some c =>
      if 48 ≤ c ∧ c ≤ 57 then
        match sr[t + 1]? with
        | none => none
        | some d => if 48 ≤ d ∧ d ≤ 57 then none else (qm_leaf 1 (c - 48) (t, ns, ts, ws, i)).map (Prod.mk true)
      else if 97 ≤ c ∧ c ≤ 104 then (qm_leaf 2 (c - 97) (t, ns, ts, ws, i)).map (Prod.mk true)
      else if c = 40 ∧ ws.length < 90 ∧ i < 8 then some (false, t + 1, ns, ts, 9 :: ws, i + 1)
      else none
def qm_bin (c : Nat) : Nat := if c = 38 then 7 else if c = 42 then 5 else if c = 43 then 3 else if c = 45 then 4 else if c = 60 then 6 else 0
def qm_opr (sr : List Nat) : qm_Q → Option (Nat × qm_Q)
  | (t, ns, ts, ws, i) => match sr[t]? with
    | none => none
    | some c =>
      if 0 < qm_bin c then
        match qm_rto (qm_rank (qm_bin c)) 90 ns ts ws with
        | none => none
        | some (ns', ts', ws') => if ws'.length < 90 then some (1, t + 1, ns', ts', qm_bin c :: ws', i) else none
      else if c = 41 then
        match qm_rto 1 90 ns ts ws with
        | none => none
        | some (ns', ts', ws') => match ws' with
          | [] => none
          | _ :: ws'' => if 0 < i ∧ ws''.length < 90 ∧ qm_fd ws'' = true then some (0, t + 1, ns', ts', ws'', i - 1) else none
      else some (2, t, ns, ts, ws, i)
def qm_sumL (sr : List Nat) : Nat → Bool → qm_Q → Option qm_Q
  | 0, _, _ => none
  | k + 1, true, q => match qm_opd sr q with
    | none => none
    | some (d, q') => qm_sumL sr k (!d) q'
  | k + 1, false, q => match qm_opr sr q with
    | none => none
    | some (s, q') => if s = 1 then qm_sumL sr k true q' else if s = 0 then qm_sumL sr k false q' else some q'
/-- the levels: c counts down, d is the deepest so far -/
def qm_lev (ns : List qm_N) : Nat → List Nat → Nat → Option (List Nat × Nat)
  | 0, lv, d => some (lv, d)
  | c + 1, lv, d => match ns[c]?, lv[c]? with
    | some (k, x, y), some l =>
      if l < 90 ∧ d < 90 ∧ k ≤ 9 then
        (if k < 3 then qm_lev ns c lv (if l ≤ d then d else l)
        else if k ≤ 7 ∧ x < c ∧ y < c then qm_lev ns c ((lv.set x (l + 1)).set y (l + 1)) (if l ≤ d then d else l) else none)
      else none
    | _, _ => none
def qm_emL (ns : List qm_N) (lv : List Nat) (d : Nat) : Nat → Nat → List (Nat × Nat) → Option (List (Nat × Nat))
  | 0, _, cd => some cd
  | r + 1, i, cd => match ns[i]?, lv[i]? with
    | some (k, x, _), some l => if l < 90 ∧ cd.length < 200 then (if l = d then qm_emL ns lv d r (i + 1) (cd ++ [(k, x)]) else qm_emL ns lv d r (i + 1) cd) else none
    | _, _ => none
def qm_em (ns : List qm_N) (lv : List Nat) : Nat → List (Nat × Nat) → Option (List (Nat × Nat))
  | 0, cd => some cd
  | d + 1, cd => match qm_emL ns lv d ns.length 0 cd with
    | none => none
    | some cd' => qm_em ns lv d cd'
def qm_emit (ns : List qm_N) (r : Nat) (cd : List (Nat × Nat)) : Option (List (Nat × Nat)) :=
  if r < ns.length ∧ ns.length < 90 then match qm_lev ns (r + 1) (List.replicate ns.length 0) 0 with
    | none => none
    | some (lv, d) => if d < 90 then qm_em ns lv (d + 1) cd else none
  else none
def qm_sum (sr : List Nat) (t : Nat) (cd : List (Nat × Nat)) : Option (Nat × List (Nat × Nat)) :=
  match qm_sumL sr 100 true (t, [], [], [], 0) with
  | none => none
  | some (t', ns, ts, ws, _) => match qm_rto 1 90 ns ts ws with
    | none => none
    | some (ns', ts', ws') => match ts', ws' with
      | [r], [] => (qm_emit ns' r cd).map (Prod.mk t')
      | _, _ => none
def qm_close : List Nat → List (Nat × Nat) → Option (List Nat × List (Nat × Nat))
  | [], _ => none
  | s :: bs, cd => match cd[s]? with
    | none => none
    | some (o, _) => if bs.length < 3 ∧ cd.length < 199 ∧ o ≤ 13 then some (bs, if o = 12 then cd ++ [(13, s)] else cd.set s (o, cd.length)) else none
/-- place in the source, inner programs pending (the last first), the program so far -/
abbrev qm_T : Type := Nat × List Nat × List (Nat × Nat)
def qm_stmt (sr : List Nat) : qm_T → Option qm_T
  | (t, bs, cd) => match sr[t]? with
    | none => none
    | some c =>
      if 97 ≤ c ∧ c ≤ 104 then
        (if sr[t + 1]? = some 61 then match qm_sum sr (t + 2) cd with
          | none => none
          | some (t', cd') => if cd'.length < 200 ∧ sr[t']? = some 59 then some (t' + 1, bs, cd' ++ [(10, c - 97)]) else none
        else none)
      else if c = 63 then match qm_sum sr (t + 1) cd with
        | none => none
        | some (t', cd') => if cd'.length < 200 ∧ sr[t']? = some 123 ∧ bs.length < 3 then some (t' + 1, cd'.length :: bs, cd' ++ [(11, 0)]) else none
      else if c = 35 then match sr[t + 1]? with
        | none => none
        | some d => if (48 ≤ d ∧ d ≤ 57) ∧ sr[t + 2]? = some 123 ∧ bs.length < 3 ∧ cd.length < 200 then some (t + 3, cd.length :: bs, cd ++ [(12, d - 48)]) else none
      else if c = 125 then (qm_close bs cd).map (Prod.mk (t + 1))
      else none
def qm_cmpL (sr : List Nat) : Nat → qm_T → Option (List (Nat × Nat))
  | 0, _ => none
  | k + 1, (t, bs, cd) => if t = sr.length then (if bs = [] then some cd else none)
    else if t < sr.length then (match qm_stmt sr (t, bs, cd) with
      | none => none
      | some s => qm_cmpL sr k s)
    else none
def qm_cmp (sr : List Nat) : Option (List (Nat × Nat)) := qm_cmpL sr 40 (0, [], [])
/-- a source that fits -/
def qm_S (sr : List Nat) : Prop := sr.length ≤ 80 ∧ ∀ c, c ∈ sr → c < 128
/-! ===== what the programs of the law compile to ===== -/
theorem qm_c1 : ∀ m, m < 10 → qm_cmp [97, 61, 98, 43, 99, 42, 48 + m, 59] = some [(2, 2), (1, m), (2, 1), (5, 1), (3, 0), (10, 0)] := by decide +kernel
theorem qm_c2 : ∀ m, m < 10 → qm_cmp [97, 61, 99, 42, 48 + m, 43, 98, 59] = some [(2, 2), (1, m), (5, 0), (2, 1), (3, 2), (10, 0)] := by decide +kernel
theorem qm_c3 : qm_cmp [97, 61, 40, 98, 45, 99, 41, 42, 40, 98, 43, 99, 41, 59] = some [(2, 1), (2, 2), (2, 1), (2, 2), (4, 0), (3, 3), (5, 2), (10, 0)] := by decide +kernel
theorem qm_c4 : qm_cmp [97, 61, 98, 42, 98, 45, 99, 42, 99, 59] = some [(2, 1), (2, 1), (2, 2), (2, 2), (5, 0), (5, 3), (4, 2), (10, 0)] := by decide +kernel
theorem qm_c5 : ∀ m, m < 10 → qm_cmp [35, 48 + m, 123, 97, 61, 97, 43, 98, 59, 125] = some [(12, m), (2, 0), (2, 1), (3, 0), (10, 0), (13, 0)] := by decide +kernel
theorem qm_c6 : qm_cmp [63, 98, 60, 99, 123, 97, 61, 98, 59, 125, 63, 49, 45, 40, 98, 60, 99, 41, 123, 97, 61, 99, 59, 125] = some [(2, 1), (2, 2), (6, 0), (11, 6), (2, 1), (10, 0), (2, 1), (2, 2), (1, 1), (6, 1), (4, 0), (11, 14), (2, 2), (10, 0)] := by decide +kernel
theorem qm_sr1 : ∀ m, m < 10 → qm_S [97, 61, 98, 43, 99, 42, 48 + m, 59] := by unfold qm_S; decide +kernel
theorem qm_sr2 : ∀ m, m < 10 → qm_S [97, 61, 99, 42, 48 + m, 43, 98, 59] := by unfold qm_S; decide +kernel
theorem qm_sr3 : qm_S [97, 61, 40, 98, 45, 99, 41, 42, 40, 98, 43, 99, 41, 59] := by unfold qm_S; decide +kernel
theorem qm_sr4 : qm_S [97, 61, 98, 42, 98, 45, 99, 42, 99, 59] := by unfold qm_S; decide +kernel
theorem qm_sr5 : ∀ m, m < 10 → qm_S [35, 48 + m, 123, 97, 61, 97, 43, 98, 59, 125] := by unfold qm_S; decide +kernel
theorem qm_sr6 : qm_S [63, 98, 60, 99, 123, 97, 61, 98, 59, 125, 63, 49, 45, 40, 98, 60, 99, 41, 123, 97, 61, 99, 59, 125] := by unfold qm_S; decide +kernel
end
section
/-! ===== pictures of a state ===== -/
def qm_rt (n : qm_N) : Int32 := if n.1 < 3 then -1 else nI n.2.2
/-- while a sum is read -/
def qm_C (sr : List Nat) (vs : List Int32) (bs : List Nat) (cd : List (Nat × Nat)) : qm_Q → St1 → Prop
  | (t, ns, ts, ws, i), (f1, f2, f3, f4, f5, f6, f7, f8, f9, f10, f11, f12, f13, f14, f15, a1, a2, a3, a4, a5, a6, a7, a8, a9, a10, a11, a12, a13) => f1 = nI sr.length ∧ f2 = nI t ∧ f3 = 0 ∧ f4 = 0 ∧ f5 = nI ns.length ∧ f6 = nI ts.length ∧ f7 = nI ws.length ∧ f8 = nI i ∧ f9 = nI bs.length ∧ f11 = nI cd.length
    ∧ qm_ar (fun x => x) a13 vs ∧ qm_ar nI a1 sr ∧ qm_ar (fun n : qm_N => nI n.1) a2 ns ∧ qm_ar (fun n : qm_N => nI n.2.1) a3 ns ∧ qm_ar qm_rt a4 ns ∧ qm_ar nI a6 ts.reverse ∧ qm_ar nI a7 ws.reverse
    ∧ qm_ar nI a8 bs.reverse ∧ qm_ar (fun c : Nat × Nat => nI c.1) a9 cd ∧ qm_ar (fun c : Nat × Nat => nI c.2) a10 cd
/-- while a tree is emitted -/
def qm_F (sr : List Nat) (vs : List Int32) (bs : List Nat) (t : Nat) (ns : List qm_N) (lv : List Nat) (cd : List (Nat × Nat)) : St1 → Prop
  | (f1, f2, f3, f4, f5, f6, f7, f8, f9, f10, f11, f12, f13, f14, f15, a1, a2, a3, a4, a5, a6, a7, a8, a9, a10, a11, a12, a13) => f1 = nI sr.length ∧ f2 = nI t ∧ f3 = 0 ∧ f4 = 0 ∧ f5 = nI ns.length ∧ f9 = nI bs.length ∧ f11 = nI cd.length
    ∧ qm_ar (fun x => x) a13 vs ∧ qm_ar nI a1 sr ∧ qm_ar (fun n : qm_N => nI n.1) a2 ns ∧ qm_ar (fun n : qm_N => nI n.2.1) a3 ns ∧ qm_ar nI a5 lv
    ∧ qm_ar nI a8 bs.reverse ∧ qm_ar (fun c : Nat × Nat => nI c.1) a9 cd ∧ qm_ar (fun c : Nat × Nat => nI c.2) a10 cd
/-- between statements -/
def qm_D (sr : List Nat) (vs : List Int32) : qm_T → St1 → Prop
  | (t, bs, cd), (f1, f2, f3, f4, f5, f6, f7, f8, f9, f10, f11, f12, f13, f14, f15, a1, a2, a3, a4, a5, a6, a7, a8, a9, a10, a11, a12, a13) => f1 = nI sr.length ∧ f2 = nI t ∧ f3 = 0 ∧ f4 = 0 ∧ f9 = nI bs.length ∧ f11 = nI cd.length
    ∧ qm_ar (fun x => x) a13 vs ∧ qm_ar nI a1 sr ∧ qm_ar nI a8 bs.reverse ∧ qm_ar (fun c : Nat × Nat => nI c.1) a9 cd ∧ qm_ar (fun c : Nat × Nat => nI c.2) a10 cd
/-- a source is in, nothing else is known -/
def qm_I (sr : List Nat) (vs : List Int32) : St1 → Prop
  | (f1, f2, f3, f4, f5, f6, f7, f8, f9, f10, f11, f12, f13, f14, f15, a1, a2, a3, a4, a5, a6, a7, a8, a9, a10, a11, a12, a13) => f1 = nI sr.length ∧ qm_ar (fun x => x) a13 vs ∧ qm_ar nI a1 sr
/-- compiled -/
def qm_G (cd : List (Nat × Nat)) (vs : List Int32) : St1 → Prop
  | (f1, f2, f3, f4, f5, f6, f7, f8, f9, f10, f11, f12, f13, f14, f15, a1, a2, a3, a4, a5, a6, a7, a8, a9, a10, a11, a12, a13) => f10 = 1 ∧ f11 = nI cd.length ∧ qm_ar (fun x => x) a13 vs ∧ qm_ar (fun c : Nat × Nat => nI c.1) a9 cd ∧ qm_ar (fun c : Nat × Nat => nI c.2) a10 cd
/-! ===== the small methods ===== -/
section
variable {c : Nat} {post : Int32 → Prop}
theorem qm_w_dig1 (h : 48 ≤ c ∧ c ≤ 57) (H : post 1) : wpX_isDigit post () (nI c) :=
  pk_lt c 48 (fun z => absurd z (by omega)) (fun _ => pk_lt 57 c (fun z => absurd z (by omega)) (fun _ => H))
theorem qm_w_dig0 (hc : c < 128) (h : ¬ (48 ≤ c ∧ c ≤ 57)) (H : post 0) : wpX_isDigit post () (nI c) :=
  pk_lt c 48 (fun _ => H) (fun z => pk_lt 57 c (fun _ => H) (fun z' => absurd (And.intro z z') h))
theorem qm_w_let1 (h : 97 ≤ c ∧ c ≤ 104) (H : post 1) : wpX_isLetter post () (nI c) :=
  pk_lt c 97 (fun z => absurd z (by omega)) (fun _ => pk_lt 104 c (fun z => absurd z (by omega)) (fun _ => H))
theorem qm_w_let0 (hc : c < 128) (h : ¬ (97 ≤ c ∧ c ≤ 104)) (H : post 0) : wpX_isLetter post () (nI c) :=
  pk_lt c 97 (fun _ => H) (fun z => pk_lt 104 c (fun _ => H) (fun z' => absurd (And.intro z z') h))
theorem qm_w_bin (hc : c < 128) (H : post (nI (qm_bin c))) : wpX_binary post () (nI c) := by
  unfold qm_bin at H
  refine pk_eq c 38 (fun z => by rw [if_pos z] at H; exact H) (fun z => ?_)
  rw [if_neg z] at H
  refine pk_eq c 42 (fun z => by rw [if_pos z] at H; exact H) (fun z => ?_)
  rw [if_neg z] at H
  refine pk_eq c 43 (fun z => by rw [if_pos z] at H; exact H) (fun z => ?_)
  rw [if_neg z] at H
  refine pk_eq c 45 (fun z => by rw [if_pos z] at H; exact H) (fun z => ?_)
  rw [if_neg z] at H
  refine pk_eq c 60 (fun z => by rw [if_pos z] at H; exact H) (fun z => ?_)
  rw [if_neg z] at H
  exact H
theorem qm_w_rank {w : Nat} {x : Int32} (hw : w ≤ 9) (hx : x = nI w) (H : post (nI (qm_rank w))) : wpX_rank post () x := by
  subst hx
  unfold qm_rank at H
  refine pk_eq w 3 (fun z => by rw [if_pos (Or.inl z)] at H; exact H) (fun z3 => ?_)
  refine pk_eq w 4 (fun z => by rw [if_pos (Or.inr z)] at H; exact H) (fun z4 => ?_)
  rw [if_neg (by omega)] at H
  refine pk_lt w 5 (fun z => by rw [if_neg (by omega)] at H; exact H) (fun z5 => ?_)
  refine pk_lt 7 w (fun z => by rw [if_neg (by omega)] at H; exact H) (fun z7 => ?_)
  rw [if_pos ⟨z5, z7⟩] at H
  exact H
theorem qm_bin_le (c : Nat) : qm_bin c ≤ 7 := by
  unfold qm_bin
  repeat' split
  all_goals omega
theorem qm_bin_3 (c : Nat) (h : 0 < qm_bin c) : 3 ≤ qm_bin c := by
  revert h
  unfold qm_bin
  repeat' split
  all_goals omega
theorem qm_rank_le (w : Nat) : qm_rank w ≤ 2 := by
  unfold qm_rank
  repeat' split
  all_goals omega
end
section
variable {f1 f2 f3 f4 f5 f6 f7 f8 f9 f10 f11 f12 f13 f14 f15 : Int32} {a1 a2 a3 a4 a5 a6 a7 a8 a9 a10 a11 a12 a13 : Nat → Int32} {sr : List Nat} {t c : Nat}
theorem qm_S_c (hs : qm_S sr) (hc : sr[t]? = some c) : c < 128 := hs.2 c (List.mem_of_getElem? hc)
theorem qm_w_peek {post : Int32 → Prop} (hs : qm_S sr) (hc : sr[t]? = some c) (h1 : f1 = nI sr.length) (h2 : f2 = nI t) (ha : qm_ar nI a1 sr) (H : post (nI c)) : wpX_peek post (f1, f2, f3, f4, f5, f6, f7, f8, f9, f10, f11, f12, f13, f14, f15, a1, a2, a3, a4, a5, a6, a7, a8, a9, a10, a11, a12, a13) := by
  subst h1 h2
  have hi := qm_lt hc
  have h80 := hs.1
  have hq := qm_S_c hs hc
  have e : a1 (nI t).toNatClampNeg = nI c := by
    rw [nI_clamp (by omega)]
    exact ha t c hc
  refine pk_le sr.length t (fun z => absurd z (by omega)) (fun _ => ⟨pk_in t 80 (by omega), ?_, ?_⟩)
  · rw [e]
    exact (pk_charN (by omega)).1
  · rw [e]
    exact H
theorem qm_w_acc {post : Int32 → St1 → Prop} {x : Int32} (hs : qm_S sr) (hc : sr[t]? = some c) (h1 : f1 = nI sr.length) (h2 : f2 = nI t) (ha : qm_ar nI a1 sr) (hx : x = nI c) (H : post 1 (f1, nI (t + 1), f3, f4, f5, f6, f7, f8, f9, f10, f11, f12, f13, f14, f15, a1, a2, a3, a4, a5, a6, a7, a8, a9, a10, a11, a12, a13)) : wpX_accept post (f1, f2, f3, f4, f5, f6, f7, f8, f9, f10, f11, f12, f13, f14, f15, a1, a2, a3, a4, a5, a6, a7, a8, a9, a10, a11, a12, a13) x := by
  unfold wpX_accept
  dsimp only
  refine qm_w_peek hs hc h1 h2 ha (br_t hx.symm (nm_r ?_ H))
  rw [h2, nI_1]
theorem qm_w_put {post : St1 → Prop} {n : Nat} {x y : Int32} (hn : n < 200) (hl : f11 = nI n) (H : post (f1, f2, f3, f4, f5, f6, f7, f8, f9, f10, nI (n + 1), f12, f13, f14, f15, a1, a2, a3, a4, a5, a6, a7, a8, upd a9 n x, upd a10 n y, a11, a12, a13)) : wpX_put post (f1, f2, f3, f4, f5, f6, f7, f8, f9, f10, f11, f12, f13, f14, f15, a1, a2, a3, a4, a5, a6, a7, a8, a9, a10, a11, a12, a13) x y := by
  subst hl
  exact pk_lt n 200 (fun _ => ⟨pk_in n 200 hn, nm_r (by rw [nI_clamp (by omega)]) ⟨pk_in n 200 hn, nm_r (by rw [nI_clamp (by omega)]) (nm_r (nI_1 n) H)⟩⟩) (fun z => absurd z (by omega))
theorem qm_w_node {post : Int32 → St1 → Prop} {n : Nat} {k x y : Int32} (hn : n < 95) (h5 : f5 = nI n) (H : post (nI n) (f1, f2, f3, f4, nI (n + 1), f6, f7, f8, f9, f10, f11, f12, f13, f14, f15, a1, upd a2 n k, upd a3 n x, upd a4 n y, a5, a6, a7, a8, a9, a10, a11, a12, a13)) : wpX_newNode post (f1, f2, f3, f4, f5, f6, f7, f8, f9, f10, f11, f12, f13, f14, f15, a1, a2, a3, a4, a5, a6, a7, a8, a9, a10, a11, a12, a13) k x y := by
  subst h5
  exact pk_le 95 n (fun z => absurd z (by omega)) (fun _ => ⟨pk_in n 96 (by omega), nm_r (by rw [nI_clamp (by omega)]) ⟨pk_in n 96 (by omega), nm_r (by rw [nI_clamp (by omega)]) ⟨pk_in n 96 (by omega), nm_r (by rw [nI_clamp (by omega)]) (nm_r (nI_1 n) H)⟩⟩⟩)
theorem qm_w_tree {post : St1 → Prop} {n : Nat} {x : Int32} (hn : n < 95) (h6 : f6 = nI n) (H : post (f1, f2, f3, f4, f5, nI (n + 1), f7, f8, f9, f10, f11, f12, f13, f14, f15, a1, a2, a3, a4, a5, upd a6 n x, a7, a8, a9, a10, a11, a12, a13)) : wpX_pushTree post (f1, f2, f3, f4, f5, f6, f7, f8, f9, f10, f11, f12, f13, f14, f15, a1, a2, a3, a4, a5, a6, a7, a8, a9, a10, a11, a12, a13) x := by
  subst h6
  exact pk_lt n 95 (fun _ => ⟨pk_in n 96 (by omega), nm_r (by rw [nI_clamp (by omega)]) (nm_r (nI_1 n) H)⟩) (fun z => absurd z (by omega))
theorem qm_w_wait {post : St1 → Prop} {n w : Nat} (hn : n < 95) (h7 : f7 = nI n) (hw : w ≤ 7) (H : post (f1, f2, f3, f4, f5, f6, nI (n + 1), f8, f9, f10, f11, f12, f13, f14, f15, a1, a2, a3, a4, a5, a6, upd a7 n (nI w), a8, a9, a10, a11, a12, a13)) : wpX_pushWait post (f1, f2, f3, f4, f5, f6, f7, f8, f9, f10, f11, f12, f13, f14, f15, a1, a2, a3, a4, a5, a6, a7, a8, a9, a10, a11, a12, a13) (nI w) := by
  subst h7
  exact pk_lt n 95 (fun _ => ⟨pk_in n 96 (by omega), nm_r (by rw [nI_clamp (by omega)]) (nm_r (nI_1 n) (pk_eq w 8 (fun z => absurd z (by omega)) (fun _ => pk_eq w 9 (fun z => absurd z (by omega)) (fun _ => H))))⟩) (fun z => absurd z (by omega))
theorem qm_w_wait9 {post : St1 → Prop} {n i : Nat} (hn : n < 95) (h7 : f7 = nI n) (h8 : f8 = nI i) (hi : i < 8) (H : post (f1, f2, f3, f4, f5, f6, nI (n + 1), nI (i + 1), f9, f10, f11, f12, f13, f14, f15, a1, a2, a3, a4, a5, a6, upd a7 n (nI 9), a8, a9, a10, a11, a12, a13)) : wpX_pushWait post (f1, f2, f3, f4, f5, f6, f7, f8, f9, f10, f11, f12, f13, f14, f15, a1, a2, a3, a4, a5, a6, a7, a8, a9, a10, a11, a12, a13) 9 := by
  subst h7 h8
  exact pk_lt n 95 (fun _ => ⟨pk_in n 96 (by omega), nm_r (by rw [nI_clamp (by omega)]; rfl) (nm_r (nI_1 n) (br_f (by decide) (br_t rfl (nm_r (nI_1 i) (pk_le (i + 1) 8 (fun _ => H) (fun z => absurd z (by omega)))))))⟩) (fun z => absurd z (by omega))
theorem qm_w_red {post : St1 → Prop} {wl tl nl w : Nat} (h7 : f7 = nI (wl + 1)) (hw : a7 wl = nI w) (hw7 : w ≤ 7) (hwl : wl < 95) (h6 : f6 = nI (tl + 2)) (htl : tl < 90) (h5 : f5 = nI nl) (hn : nl < 95)
    (H : post (f1, f2, f3, f4, nI (nl + 1), nI (tl + 1), nI wl, f8, f9, f10, f11, f12, f13, f14, f15, a1, upd a2 nl (nI w), upd a3 nl (a6 tl), upd a4 nl (a6 (tl + 1)), a5, upd a6 tl (nI nl), a7, a8, a9, a10, a11, a12, a13)) : wpX_reduce post (f1, f2, f3, f4, f5, f6, f7, f8, f9, f10, f11, f12, f13, f14, f15, a1, a2, a3, a4, a5, a6, a7, a8, a9, a10, a11, a12, a13) := by
  subst h7 h6 h5
  unfold wpX_reduce
  dsimp only
  refine nm_r (nI_pred wl) ⟨pk_in wl 96 (by omega), nm_r (e' := nI w) (by rw [nI_clamp (by omega)]; exact hw) (pk_eq w 8 (fun z => absurd z (by omega)) (fun _ => ⟨pk_in tl 96 (by omega) (qm_s2 tl), pk_in (tl + 1) 96 (by omega) (qm_s1 tl), ?_⟩))⟩
  rw [qm_s2, qm_s1, nI_clamp (by omega), nI_clamp (by omega)]
  refine qm_w_node hn rfl ?_
  dsimp only
  refine nm_r (qm_s1 tl) ⟨pk_in tl 96 (by omega) (nI_pred tl), nm_r ?_ H⟩
  rw [nI_pred, nI_clamp (by omega)]
theorem qm_w_fd {post : St1 → Prop} {ws : List Nat} (h : qm_fd ws = true) (h7 : f7 = nI ws.length) (ha : qm_ar nI a7 ws.reverse) (H : post (f1, f2, f3, f4, f5, f6, f7, f8, f9, f10, f11, f12, f13, f14, f15, a1, a2, a3, a4, a5, a6, a7, a8, a9, a10, a11, a12, a13)) : wpX_factorDone post (f1, f2, f3, f4, f5, f6, f7, f8, f9, f10, f11, f12, f13, f14, f15, a1, a2, a3, a4, a5, a6, a7, a8, a9, a10, a11, a12, a13) := by
  subst h7
  refine ⟨1, ?_⟩
  refine pk_le 96 0 (fun z => absurd z (by omega)) (fun _ => ?_)
  cases ws with
  | nil => exact br_t (by decide) H
  | cons w ws =>
    have h := of_decide_eq_true h
    have hl : ws.length < 90 := h.2
    refine br_f (nI_nle (Nat.succ_pos _) (by rw [List.length_cons]; omega)) ⟨pk_in ws.length 96 (by omega) (nI_pred _), ?_⟩
    refine pk_eq w 8 (fun z => absurd z (by omega)) (fun _ => H) ?_
    rw [List.length_cons, nI_pred, nI_clamp (by omega)]
    exact qm_st_top ha
end
end
section
/-! ===== reading a sum ===== -/
def qm_b : Bool → Int32
  | true => 1
  | false => 0
def qm_rs : Nat → Int32
  | 0 => 0
  | 1 => 1
  | _ + 2 => -1
section
variable {sr : List Nat} {vs : List Int32} {bs : List Nat} {cd : List (Nat × Nat)} {t i : Nat}
theorem qm_w_rto {post : St1 → Prop} {least : Nat} (hl : least ≤ 2) : ∀ (k : Nat) (ns : List qm_N) (ts ws : List Nat) (ns' : List qm_N) (ts' ws' : List Nat) (j : Nat) (f1 f2 f3 f4 f5 f6 f7 f8 f9 f10 f11 f12 f13 f14 f15 : Int32) (a1 a2 a3 a4 a5 a6 a7 a8 a9 a10 a11 a12 a13 : Nat → Int32),
    qm_rto least k ns ts ws = some (ns', ts', ws') → j + k ≤ 96 → qm_C sr vs bs cd (t, ns, ts, ws, i) (f1, f2, f3, f4, f5, f6, f7, f8, f9, f10, f11, f12, f13, f14, f15, a1, a2, a3, a4, a5, a6, a7, a8, a9, a10, a11, a12, a13) → (∀ u, qm_C sr vs bs cd (t, ns', ts', ws', i) u → post u) →
    wX_reduceTo_2 post (nI least) k (nI j) f1 f2 f3 f4 f5 f6 f7 f8 f9 f10 f11 f12 f13 f14 f15 a1 a2 a3 a4 a5 a6 a7 a8 a9 a10 a11 a12 a13 := by
  intro k
  induction k with
  | zero =>
    intro ns ts ws ns' ts' ws' j f1 f2 f3 f4 f5 f6 f7 f8 f9 f10 f11 f12 f13 f14 f15 a1 a2 a3 a4 a5 a6 a7 a8 a9 a10 a11 a12 a13 h
    simp [qm_rto] at h
  | succ k ih =>
    intro ns ts ws ns' ts' ws' j f1 f2 f3 f4 f5 f6 f7 f8 f9 f10 f11 f12 f13 f14 f15 a1 a2 a3 a4 a5 a6 a7 a8 a9 a10 a11 a12 a13 h hj hC H
    have hC' := hC
    obtain ⟨e1, e2, e3, e4, e5, e6, e7, e8, e9, e11, h13, h1, h2, h3, h4, h6, h7, h8, h9, h10⟩ := hC'
    refine pk_le 96 j (fun z => absurd z (by omega)) (fun _ => ?_)
    cases ws with
    | nil =>
      have e := Option.some.inj h
      cases e
      exact br_t (by rw [e7]; decide) (H _ hC)
    | cons w ws =>
      simp only [qm_rto] at h
      split at h
      · rename_i hg
        have e7' : f7 = nI (ws.length + 1) := e7
        refine br_f (by rw [e7']; exact nI_nle (Nat.succ_pos _) (by omega)) ⟨pk_in ws.length 96 (by omega) (by rw [e7']; exact nI_pred _), ?_⟩
        refine qm_w_rank hg.1 (by rw [e7', nI_pred, nI_clamp (by omega)]; exact qm_st_top h7) ?_
        have hrk := qm_rank_le w
        split at h
        · rename_i hr
          have e := Option.some.inj h
          cases e
          exact pk_lt (qm_rank w) least (fun _ => H _ hC) (fun z => absurd hr (by omega))
        · rename_i hr
          refine pk_lt (qm_rank w) least (fun z => absurd z hr) (fun _ => ?_)
          split at h
          · cases h
          · rename_i n2 t2 w2 hred
            cases ts with
            | nil => simp [qm_red] at hred
            | cons y ts => cases ts with
              | nil => simp [qm_red] at hred
              | cons x ts =>
                simp only [qm_red] at hred
                split at hred
                · rename_i hq
                  have e := Option.some.inj hred
                  cases e
                  refine qm_w_red (wl := ws.length) (tl := ts.length) (nl := ns.length) (w := w) e7' (qm_st_top h7) hq.1.2 (by omega) e6 hq.2.2.1 e5 (by omega) ?_
                  dsimp only
                  refine nm_r (nI_1 j) (ih _ _ _ _ _ _ (j + 1) _ _ _ _ _ _ _ _ _ _ _ _ _ _ _ _ _ _ _ _ _ _ _ _ _ _ _ _ h (by omega) ?_ H)
                  refine ⟨e1, e2, e3, e4, qm_len', rfl, rfl, e8, e9, e11, h13, h1, qm_ar_push h2 rfl, qm_ar_push h3 (qm_st_top (qm_st_pop h6)), qm_ar_push h4 ?_, qm_st_push (qm_st_pop (qm_st_pop h6)) rfl, qm_st_pop h7, h8, h9, h10⟩
                  rw [show qm_rt (w, x, y) = nI y from if_neg (by omega)]
                  exact qm_st_top h6
                · cases hred
      · cases h
theorem qm_w_reduceTo {post : St1 → Prop} {least : Nat} {ns ns' : List qm_N} {ts ws ts' ws' : List Nat} {f1 f2 f3 f4 f5 f6 f7 f8 f9 f10 f11 f12 f13 f14 f15 : Int32} {a1 a2 a3 a4 a5 a6 a7 a8 a9 a10 a11 a12 a13 : Nat → Int32} (hl : least ≤ 2) (h : qm_rto least 90 ns ts ws = some (ns', ts', ws')) (hC : qm_C sr vs bs cd (t, ns, ts, ws, i) (f1, f2, f3, f4, f5, f6, f7, f8, f9, f10, f11, f12, f13, f14, f15, a1, a2, a3, a4, a5, a6, a7, a8, a9, a10, a11, a12, a13))
    (H : ∀ u, qm_C sr vs bs cd (t, ns', ts', ws', i) u → post u) : wpX_reduceTo post (f1, f2, f3, f4, f5, f6, f7, f8, f9, f10, f11, f12, f13, f14, f15, a1, a2, a3, a4, a5, a6, a7, a8, a9, a10, a11, a12, a13) (nI least) :=
  ⟨90, qm_w_rto hl 90 _ _ _ _ _ _ 0 _ _ _ _ _ _ _ _ _ _ _ _ _ _ _ _ _ _ _ _ _ _ _ _ _ _ _ _ h (by omega) hC H⟩
theorem qm_w_num6 {post : St1 → Prop} {X : Int32} {d : Nat} {f1 f2 f3 f4 f5 f6 f7 f8 f9 f10 f11 f12 f13 f14 f15 : Int32} {a1 a2 a3 a4 a5 a6 a7 a8 a9 a10 a11 a12 a13 : Nat → Int32} (hs : qm_S sr) (hd : sr[t]? = some d) (hn : ¬ (48 ≤ d ∧ d ≤ 57)) (h1 : f1 = nI sr.length) (ha : qm_ar nI a1 sr) (H : wX_readNumber_71 post X f1 (nI t) f3 f4 f5 f6 f7 f8 f9 f10 f11 f12 f13 f14 f15 a1 a2 a3 a4 a5 a6 a7 a8 a9 a10 a11 a12 a13) :
    ∃ n, wX_readNumber_6 post f1 f3 f4 f5 f6 f7 f8 f9 f10 f11 f12 f13 f14 f15 a1 a2 a3 a4 a5 a6 a7 a8 a9 a10 a11 a12 a13 n X 1 (nI 1) (nI t) :=
  pk_loop (σ := Unit) (fun n j _ => wX_readNumber_6 post f1 f3 f4 f5 f6 f7 f8 f9 f10 f11 f12 f13 f14 f15 a1 a2 a3 a4 a5 a6 a7 a8 a9 a10 a11 a12 a13 n X 1 (nI j) (nI t)) (fun _ _ => True) 80 1 () (by omega) trivial
    (fun n _ _ => pk_le 80 80 (fun _ => br_t (by decide) H) (fun z => absurd z (by omega)))
    (fun n j _ hj _ hw => pk_le 80 j (fun z => absurd z (by omega)) (fun _ => qm_w_peek hs hd h1 rfl ha (qm_w_dig0 (qm_S_c hs hd) hn (br_t rfl (nm_r (nI_1 j) (hw () trivial))))))
theorem qm_w_num71 {post : St1 → Prop} {X : Int32} {n m : Nat} {ws : List Nat} {f1 f2 f3 f4 f5 f6 f7 f8 f9 f10 f11 f12 f13 f14 f15 : Int32} {a1 a2 a3 a4 a5 a6 a7 a8 a9 a10 a11 a12 a13 : Nat → Int32} (hn : n < 95) (h5 : f5 = nI n) (hm : m < 95) (h6 : f6 = nI m) (hf : qm_fd ws = true) (h7 : f7 = nI ws.length) (ha : qm_ar nI a7 ws.reverse)
    (H : post (f1, f2, f3, f4, nI (n + 1), nI (m + 1), f7, f8, f9, f10, f11, f12, f13, f14, f15, a1, upd a2 n 1, upd a3 n X, upd a4 n (-1), a5, upd a6 m (nI n), a7, a8, a9, a10, a11, a12, a13)) : wX_readNumber_71 post X f1 f2 f3 f4 f5 f6 f7 f8 f9 f10 f11 f12 f13 f14 f15 a1 a2 a3 a4 a5 a6 a7 a8 a9 a10 a11 a12 a13 := by
  unfold wX_readNumber_71
  refine qm_w_node hn h5 ?_
  dsimp only
  refine qm_w_tree hm h6 ?_
  dsimp only
  exact qm_w_fd hf h7 ha H
theorem qm_w_num {post : St1 → Prop} {c d : Nat} {ns : List qm_N} {ts ws : List Nat} {q : qm_Q} {f1 f2 f3 f4 f5 f6 f7 f8 f9 f10 f11 f12 f13 f14 f15 : Int32} {a1 a2 a3 a4 a5 a6 a7 a8 a9 a10 a11 a12 a13 : Nat → Int32} (hs : qm_S sr) (hc : sr[t]? = some c) (hd : sr[t + 1]? = some d) (h0 : 48 ≤ c ∧ c ≤ 57) (hn : ¬ (48 ≤ d ∧ d ≤ 57))
    (hq : qm_leaf 1 (c - 48) (t, ns, ts, ws, i) = some q) (hC : qm_C sr vs bs cd (t, ns, ts, ws, i) (f1, f2, f3, f4, f5, f6, f7, f8, f9, f10, f11, f12, f13, f14, f15, a1, a2, a3, a4, a5, a6, a7, a8, a9, a10, a11, a12, a13)) (H : ∀ u, qm_C sr vs bs cd q u → post u) : wpX_readNumber post (f1, f2, f3, f4, f5, f6, f7, f8, f9, f10, f11, f12, f13, f14, f15, a1, a2, a3, a4, a5, a6, a7, a8, a9, a10, a11, a12, a13) := by
  obtain ⟨e1, e2, e3, e4, e5, e6, e7, e8, e9, e11, h13, h1, h2, h3, h4, h6, h7, h8, h9, h10⟩ := hC
  simp only [qm_leaf] at hq
  split at hq
  · rename_i hg
    have e := Option.some.inj hq
    cases e
    have T : wX_readNumber_71 post (nI (c - 48)) f1 (nI (t + 1)) f3 f4 f5 f6 f7 f8 f9 f10 f11 f12 f13 f14 f15 a1 a2 a3 a4 a5 a6 a7 a8 a9 a10 a11 a12 a13 := by
      refine qm_w_num71 (n := ns.length) (m := ts.length) (by omega) e5 (by omega) e6 hg.2.2 e7 h7 (H _ ?_)
      exact ⟨e1, rfl, e3, e4, qm_len', rfl, e7, e8, e9, e11, h13, h1, qm_ar_push h2 rfl, qm_ar_push h3 rfl, qm_ar_push h4 rfl, qm_st_push h6 rfl, h7, h8, h9, h10⟩
    obtain ⟨n, hn⟩ := qm_w_num6 (f2 := f2) hs hd hn e1 h1 T
    refine ⟨n + 1, br_f (by decide) (qm_w_peek hs hc e1 e2 h1 (qm_w_dig1 h0 (br_f (by decide) ?_)))⟩
    refine nm_r (e' := nI (c - 48)) ?_ (nm_r (e' := 1) (by decide) (nm_r (e' := nI (t + 1)) (by rw [e2, nI_1]) (nm_r (e' := nI 1) (by decide) hn)))
    rw [Int32.zero_mul, Int32.zero_add]
    exact pk_sub h0.1
  · cases hq
theorem qm_w_opd {post : Int32 → St1 → Prop} {q q' : qm_Q} {d : Bool} {f1 f2 f3 f4 f5 f6 f7 f8 f9 f10 f11 f12 f13 f14 f15 : Int32} {a1 a2 a3 a4 a5 a6 a7 a8 a9 a10 a11 a12 a13 : Nat → Int32} (hs : qm_S sr) (h : qm_opd sr q = some (d, q')) (hC : qm_C sr vs bs cd q (f1, f2, f3, f4, f5, f6, f7, f8, f9, f10, f11, f12, f13, f14, f15, a1, a2, a3, a4, a5, a6, a7, a8, a9, a10, a11, a12, a13)) (H : ∀ u, qm_C sr vs bs cd q' u → post (qm_b d) u) : wpX_readOperand post (f1, f2, f3, f4, f5, f6, f7, f8, f9, f10, f11, f12, f13, f14, f15, a1, a2, a3, a4, a5, a6, a7, a8, a9, a10, a11, a12, a13) := by
  obtain ⟨t, ns, ts, ws, i⟩ := q
  have hC' := hC
  obtain ⟨e1, e2, e3, e4, e5, e6, e7, e8, e9, e11, h13, h1, h2, h3, h4, h6, h7, h8, h9, h10⟩ := hC'
  unfold wpX_readOperand
  dsimp only
  simp only [qm_opd] at h
  split at h
  · cases h
  · rename_i c hc
    refine qm_w_peek hs hc e1 e2 h1 ?_
    have hc8 := qm_S_c hs hc
    split at h
    · rename_i hd0
      refine qm_w_dig1 hd0 (br_f (by decide) ?_)
      split at h
      · cases h
      · rename_i d' hd'
        split at h
        · cases h
        · rename_i hnd
          obtain ⟨q1, hq1, hq2⟩ := Option.map_eq_some_iff.mp h
          cases hq2
          refine qm_w_num hs hc hd' hd0 hnd hq1 hC (fun u hu => ?_)
          obtain ⟨f1, f2, f3, f4, f5, f6, f7, f8, f9, f10, f11, f12, f13, f14, f15, a1, a2, a3, a4, a5, a6, a7, a8, a9, a10, a11, a12, a13⟩ := u
          exact H _ hu
    · rename_i hd0
      refine qm_w_dig0 hc8 hd0 (br_t rfl ?_)
      split at h
      · rename_i hl
        refine qm_w_let1 hl (br_f (by decide) ?_)
        obtain ⟨q1, hq1, hq2⟩ := Option.map_eq_some_iff.mp h
        cases hq2
        simp only [qm_leaf] at hq1
        split at hq1
        · rename_i hg
          have e := Option.some.inj hq1
          cases e
          refine qm_w_node (n := ns.length) (by omega) e5 ?_
          dsimp only
          refine qm_w_tree (n := ts.length) (by omega) e6 ?_
          dsimp only
          refine nm_r (e' := nI (t + 1)) (by rw [e2, nI_1]) (qm_w_fd hg.2.2 e7 h7 (H _ ?_))
          exact ⟨e1, rfl, e3, e4, qm_len', rfl, e7, e8, e9, e11, h13, h1, qm_ar_push h2 rfl, qm_ar_push h3 (pk_sub hl.1), qm_ar_push h4 rfl, qm_st_push h6 rfl, h7, h8, h9, h10⟩
        · cases hq1
      · rename_i hl
        refine qm_w_let0 hc8 hl (br_t rfl ?_)
        split at h
        · rename_i hb
          have e := Option.some.inj h
          cases e
          refine br_t (by rw [hb.1]; rfl) (qm_w_wait9 (n := ws.length) (by omega) e7 e8 hb.2.2 ?_)
          dsimp only
          refine nm_r (e' := nI (t + 1)) (by rw [e2, nI_1]) (H _ ?_)
          exact ⟨e1, rfl, e3, e4, e5, e6, rfl, rfl, e9, e11, h13, h1, h2, h3, h4, h6, qm_st_push h7 rfl, h8, h9, h10⟩
        · cases h
theorem qm_w_opr {post : Int32 → St1 → Prop} {q q' : qm_Q} {s : Nat} {f1 f2 f3 f4 f5 f6 f7 f8 f9 f10 f11 f12 f13 f14 f15 : Int32} {a1 a2 a3 a4 a5 a6 a7 a8 a9 a10 a11 a12 a13 : Nat → Int32} (hs : qm_S sr) (h : qm_opr sr q = some (s, q')) (hC : qm_C sr vs bs cd q (f1, f2, f3, f4, f5, f6, f7, f8, f9, f10, f11, f12, f13, f14, f15, a1, a2, a3, a4, a5, a6, a7, a8, a9, a10, a11, a12, a13)) (H : ∀ u, qm_C sr vs bs cd q' u → post (qm_rs s) u) : wpX_readOperator post (f1, f2, f3, f4, f5, f6, f7, f8, f9, f10, f11, f12, f13, f14, f15, a1, a2, a3, a4, a5, a6, a7, a8, a9, a10, a11, a12, a13) := by
  obtain ⟨t, ns, ts, ws, i⟩ := q
  have hC' := hC
  obtain ⟨e1, e2, e3, e4, e5, e6, e7, e8, e9, e11, h13, h1, h2, h3, h4, h6, h7, h8, h9, h10⟩ := hC'
  unfold wpX_readOperator
  dsimp only
  simp only [qm_opr] at h
  split at h
  · cases h
  · rename_i c hc
    have hc8 := qm_S_c hs hc
    have hb7 := qm_bin_le c
    refine qm_w_peek hs hc e1 e2 h1 (qm_w_bin hc8 ?_)
    split at h
    · rename_i hb
      refine br_f (nI_nle hb (by omega)) (qm_w_rank (by omega) rfl ?_)
      split at h
      · cases h
      · rename_i ns' ts' ws' hr
        split at h
        · rename_i hw
          have e := Option.some.inj h
          cases e
          refine qm_w_reduceTo (qm_rank_le _) hr hC (fun u hu => ?_)
          obtain ⟨f1, f2, f3, f4, f5, f6, f7, f8, f9, f10, f11, f12, f13, f14, f15, a1, a2, a3, a4, a5, a6, a7, a8, a9, a10, a11, a12, a13⟩ := u
          dsimp only
          obtain ⟨e1, e2, e3, e4, e5, e6, e7, e8, e9, e11, h13, h1, h2, h3, h4, h6, h7, h8, h9, h10⟩ := hu
          refine qm_w_wait (n := ws'.length) (by omega) e7 hb7 ?_
          dsimp only
          refine nm_r (e' := nI (t + 1)) (by rw [e2, nI_1]) (H _ ?_)
          exact ⟨e1, rfl, e3, e4, e5, e6, rfl, e8, e9, e11, h13, h1, h2, h3, h4, h6, qm_st_push h7 rfl, h8, h9, h10⟩
        · cases h
    · rename_i hb
      have hb0 : qm_bin c = 0 := by omega
      rw [hb0]
      refine br_t (by decide) ?_
      split at h
      · rename_i h41
        refine br_t (by rw [h41]; rfl) ?_
        split at h
        · cases h
        · rename_i ns' ts' ws' hr
          refine qm_w_reduceTo (least := 1) (by omega) hr hC (fun u hu => ?_)
          obtain ⟨f1, f2, f3, f4, f5, f6, f7, f8, f9, f10, f11, f12, f13, f14, f15, a1, a2, a3, a4, a5, a6, a7, a8, a9, a10, a11, a12, a13⟩ := u
          dsimp only
          obtain ⟨e1, e2, e3, e4, e5, e6, e7, e8, e9, e11, h13, h1, h2, h3, h4, h6, h7, h8, h9, h10⟩ := hu
          split at h
          · cases h
          · rename_i w ws''
            split at h
            · rename_i hg
              have e := Option.some.inj h
              cases e
              have e7' : f7 = nI (ws''.length + 1) := e7
              refine br_f (by rw [e7']; exact nI_ne0 (Nat.succ_pos _) (by omega)) ?_
              refine nm_r (e' := nI ws''.length) (by rw [e7']; exact nI_pred _) (nm_r (e' := nI (i - 1)) (by rw [e8]; exact pk_sub (b := 1) (by omega)) (nm_r (e' := nI (t + 1)) (by rw [e2, nI_1]) (qm_w_fd hg.2.2 rfl (qm_st_pop h7) (H _ ?_))))
              exact ⟨e1, rfl, e3, e4, e5, e6, rfl, rfl, e9, e11, h13, h1, h2, h3, h4, h6, qm_st_pop h7, h8, h9, h10⟩
            · cases h
      · rename_i h41
        have e := Option.some.inj h
        cases e
        exact pk_eq c 41 (fun z => absurd z h41) (fun _ => H _ hC)
theorem qm_w_sumL {post : St1 → Prop} (hs : qm_S sr) : ∀ (k : Nat) (fl : Bool) (q q' : qm_Q) (j : Nat) (f1 f2 f3 f4 f5 f6 f7 f8 f9 f10 f11 f12 f13 f14 f15 : Int32) (a1 a2 a3 a4 a5 a6 a7 a8 a9 a10 a11 a12 a13 : Nat → Int32), qm_sumL sr k fl q = some q' → j + k ≤ 150 → qm_C sr vs bs cd q (f1, f2, f3, f4, f5, f6, f7, f8, f9, f10, f11, f12, f13, f14, f15, a1, a2, a3, a4, a5, a6, a7, a8, a9, a10, a11, a12, a13) →
    (∀ (f1 f2 f3 f4 f5 f6 f7 f8 f9 f10 f11 f12 f13 f14 f15 : Int32) (a1 a2 a3 a4 a5 a6 a7 a8 a9 a10 a11 a12 a13 : Nat → Int32), qm_C sr vs bs cd q' (f1, f2, f3, f4, f5, f6, f7, f8, f9, f10, f11, f12, f13, f14, f15, a1, a2, a3, a4, a5, a6, a7, a8, a9, a10, a11, a12, a13) → wX_sum_91 post f1 f2 f3 f4 f5 f6 f7 f8 f9 f10 f11 f12 f13 f14 f15 a1 a2 a3 a4 a5 a6 a7 a8 a9 a10 a11 a12 a13) → wX_sum_26 post (k + 1) (qm_b fl) 1 (nI j) f1 f2 f3 f4 f5 f6 f7 f8 f9 f10 f11 f12 f13 f14 f15 a1 a2 a3 a4 a5 a6 a7 a8 a9 a10 a11 a12 a13 := by
  intro k
  induction k with
  | zero =>
    intro fl q q' j f1 f2 f3 f4 f5 f6 f7 f8 f9 f10 f11 f12 f13 f14 f15 a1 a2 a3 a4 a5 a6 a7 a8 a9 a10 a11 a12 a13 h
    simp [qm_sumL] at h
  | succ k ih =>
    intro fl q q' j f1 f2 f3 f4 f5 f6 f7 f8 f9 f10 f11 f12 f13 f14 f15 a1 a2 a3 a4 a5 a6 a7 a8 a9 a10 a11 a12 a13 h hj hC H
    have e3 : f3 = 0 := by
      obtain ⟨t, ns, ts, ws, i⟩ := q
      exact hC.2.2.1
    refine pk_le 160 j (fun z => absurd z (by omega)) (fun _ => br_f (by decide) (br_t e3 ?_))
    cases fl with
    | false =>
      refine br_t rfl ?_
      simp only [qm_sumL] at h
      split at h
      · cases h
      · rename_i s q1 ho
        refine qm_w_opr hs ho hC (fun u hu => ?_)
        obtain ⟨f1, f2, f3, f4, f5, f6, f7, f8, f9, f10, f11, f12, f13, f14, f15, a1, a2, a3, a4, a5, a6, a7, a8, a9, a10, a11, a12, a13⟩ := u
        dsimp only
        by_cases hs1 : s = 1
        · subst hs1
          rw [if_pos rfl] at h
          exact br_t rfl (br_t (by decide) (nm_r (nI_1 j) (ih true q1 q' (j + 1) _ _ _ _ _ _ _ _ _ _ _ _ _ _ _ _ _ _ _ _ _ _ _ _ _ _ _ _ h (by omega) hu H)))
        · rw [if_neg hs1] at h
          by_cases hs0 : s = 0
          · subst hs0
            rw [if_pos rfl] at h
            exact br_f (by decide) (br_t (by decide) (nm_r (nI_1 j) (ih false q1 q' (j + 1) _ _ _ _ _ _ _ _ _ _ _ _ _ _ _ _ _ _ _ _ _ _ _ _ _ _ _ _ h (by omega) hu H)))
          · rw [if_neg hs0] at h
            have e := Option.some.inj h
            subst e
            have hr : qm_rs s = -1 := by
              match s with
              | 0 => exact absurd rfl hs0
              | 1 => exact absurd rfl hs1
              | _ + 2 => rfl
            rw [hr]
            refine br_f (by decide) (br_f (by decide) (nm_r (nI_1 j) ?_))
            exact pk_le 160 (j + 1) (fun _ => H _ _ _ _ _ _ _ _ _ _ _ _ _ _ _ _ _ _ _ _ _ _ _ _ _ _ _ _ hu) (fun _ => br_t rfl (H _ _ _ _ _ _ _ _ _ _ _ _ _ _ _ _ _ _ _ _ _ _ _ _ _ _ _ _ hu))
    | true =>
      refine br_f (by decide) ?_
      simp only [qm_sumL] at h
      split at h
      · cases h
      · rename_i d q1 ho
        refine qm_w_opd hs ho hC (fun u hu => ?_)
        obtain ⟨f1, f2, f3, f4, f5, f6, f7, f8, f9, f10, f11, f12, f13, f14, f15, a1, a2, a3, a4, a5, a6, a7, a8, a9, a10, a11, a12, a13⟩ := u
        dsimp only
        cases d with
        | false => exact br_t rfl (nm_r (nI_1 j) (ih true q1 q' (j + 1) _ _ _ _ _ _ _ _ _ _ _ _ _ _ _ _ _ _ _ _ _ _ _ _ _ _ _ _ h (by omega) hu H))
        | true => exact br_f (by decide) (nm_r (nI_1 j) (ih false q1 q' (j + 1) _ _ _ _ _ _ _ _ _ _ _ _ _ _ _ _ _ _ _ _ _ _ _ _ _ _ _ _ h (by omega) hu H))
end
end
section
/-! ===== emitting a tree ===== -/
theorem qm_ar_zero {s : Nat → Int32} {N : Nat} (h : ∀ j, j < N → s j = 0) : qm_ar nI s (List.replicate N 0) := by
  intro i x hx
  have hi := qm_lt hx
  rw [List.length_replicate] at hi
  rw [List.eq_of_mem_replicate (List.mem_of_getElem? hx), h i hi]
  rfl
section
variable {sr : List Nat} {vs : List Int32} {bs : List Nat} {ns : List qm_N} {lv : List Nat} {t : Nat}
theorem qm_w_emL {post : St1 → Prop} {d : Nat} (hd : d < 90) (hn : ns.length < 90) : ∀ (r i : Nat) (cd cd' : List (Nat × Nat)) (f1 f2 f3 f4 f5 f6 f7 f8 f9 f10 f11 f12 f13 f14 f15 : Int32) (a1 a2 a3 a4 a5 a6 a7 a8 a9 a10 a11 a12 a13 : Nat → Int32), qm_emL ns lv d r i cd = some cd' → i + r = ns.length → qm_F sr vs bs t ns lv cd (f1, f2, f3, f4, f5, f6, f7, f8, f9, f10, f11, f12, f13, f14, f15, a1, a2, a3, a4, a5, a6, a7, a8, a9, a10, a11, a12, a13) →
    (∀ u, qm_F sr vs bs t ns lv cd' u → post u) → wX_emitLevel_2 post (nI d) (r + 1) (nI i) f1 f2 f3 f4 f5 f6 f7 f8 f9 f10 f11 f12 f13 f14 f15 a1 a2 a3 a4 a5 a6 a7 a8 a9 a10 a11 a12 a13 := by
  intro r
  induction r with
  | zero =>
    intro i cd cd' f1 f2 f3 f4 f5 f6 f7 f8 f9 f10 f11 f12 f13 f14 f15 a1 a2 a3 a4 a5 a6 a7 a8 a9 a10 a11 a12 a13 h hi hF H
    have e := Option.some.inj h
    cases e
    have e5 : f5 = nI ns.length := hF.2.2.2.2.1
    exact pk_le ns.length i (fun _ => H _ hF) (fun z => absurd z (by omega)) e5
  | succ r ih =>
    intro i cd cd' f1 f2 f3 f4 f5 f6 f7 f8 f9 f10 f11 f12 f13 f14 f15 a1 a2 a3 a4 a5 a6 a7 a8 a9 a10 a11 a12 a13 h hi hF H
    have hF' := hF
    obtain ⟨e1, e2, e3, e4, e5, e9, e11, h13, h1, h2, h3, h5, h8, h9, h10⟩ := hF'
    simp only [qm_emL] at h
    split at h
    · rename_i k x y l hk hl
      refine pk_le ns.length i (fun z => absurd z (by omega)) (fun _ => ⟨pk_in i 96 (by omega), ?_⟩) e5
      have ei : (nI i).toNatClampNeg = i := nI_clamp (by omega)
      split at h
      · rename_i hg
        rw [ei, h5 i l hl, h2 i _ hk, h3 i _ hk]
        split at h
        · rename_i hld
          refine pk_eq l d (fun _ => ⟨pk_in i 96 (by omega), pk_in i 96 (by omega), qm_w_put hg.2 e11 ?_⟩) (fun z => absurd hld z)
          dsimp only
          refine nm_r (nI_1 i) (ih (i + 1) _ cd' _ _ _ _ _ _ _ _ _ _ _ _ _ _ _ _ _ _ _ _ _ _ _ _ _ _ _ _ h (by omega) ?_ H)
          exact ⟨e1, e2, e3, e4, e5, e9, qm_len', h13, h1, h2, h3, h5, h8, qm_ar_push h9 rfl, qm_ar_push h10 rfl⟩
        · rename_i hld
          exact pk_eq l d (fun z => absurd z hld) (fun _ => nm_r (nI_1 i) (ih (i + 1) _ cd' _ _ _ _ _ _ _ _ _ _ _ _ _ _ _ _ _ _ _ _ _ _ _ _ _ _ _ _ h (by omega) hF H))
      · cases h
    · cases h
theorem qm_w_em {post : St1 → Prop} (hn : ns.length < 90) : ∀ (c : Nat) (cd cd' : List (Nat × Nat)) (f1 f2 f3 f4 f5 f6 f7 f8 f9 f10 f11 f12 f13 f14 f15 : Int32) (a1 a2 a3 a4 a5 a6 a7 a8 a9 a10 a11 a12 a13 : Nat → Int32), qm_em ns lv c cd = some cd' → c ≤ 90 → qm_F sr vs bs t ns lv cd (f1, f2, f3, f4, f5, f6, f7, f8, f9, f10, f11, f12, f13, f14, f15, a1, a2, a3, a4, a5, a6, a7, a8, a9, a10, a11, a12, a13) →
    (∀ u, qm_F sr vs bs t ns lv cd' u → post u) → wX_emitTree_125 post (c + 1) (qm_dn c) f1 f2 f3 f4 f5 f6 f7 f8 f9 f10 f11 f12 f13 f14 f15 a1 a2 a3 a4 a5 a6 a7 a8 a9 a10 a11 a12 a13 := by
  intro c
  induction c with
  | zero =>
    intro cd cd' f1 f2 f3 f4 f5 f6 f7 f8 f9 f10 f11 f12 f13 f14 f15 a1 a2 a3 a4 a5 a6 a7 a8 a9 a10 a11 a12 a13 h hc hF H
    have e := Option.some.inj h
    cases e
    exact br_t (by decide) (H _ hF)
  | succ c ih =>
    intro cd cd' f1 f2 f3 f4 f5 f6 f7 f8 f9 f10 f11 f12 f13 f14 f15 a1 a2 a3 a4 a5 a6 a7 a8 a9 a10 a11 a12 a13 h hc hF H
    simp only [qm_em] at h
    split at h
    · cases h
    · rename_i cd1 h1
      refine br_f (nI_pos (by omega)) ⟨ns.length + 1, qm_w_emL (by omega) hn ns.length 0 cd cd1 _ _ _ _ _ _ _ _ _ _ _ _ _ _ _ _ _ _ _ _ _ _ _ _ _ _ _ _ h1 (by omega) hF (fun u hu => ?_)⟩
      obtain ⟨f1, f2, f3, f4, f5, f6, f7, f8, f9, f10, f11, f12, f13, f14, f15, a1, a2, a3, a4, a5, a6, a7, a8, a9, a10, a11, a12, a13⟩ := u
      exact nm_r (qm_dn1 c) (ih cd1 cd' _ _ _ _ _ _ _ _ _ _ _ _ _ _ _ _ _ _ _ _ _ _ _ _ _ _ _ _ h (by omega) hu H)
end
section
variable {f1 f2 f3 f4 f5 f6 f7 f8 f9 f10 f11 f12 f13 f14 f15 : Int32} {a1 a2 a3 a4 a5 a6 a7 a8 a9 a10 a11 a12 a13 : Nat → Int32} {post : St1 → Prop}
theorem qm_w_e4 {root : Int32} {N : Nat} (hN : N < 90) (h5 : f5 = nI N) (H : ∀ s, (∀ j, j < N → s j = 0) → ∃ fu, wX_emitTree_27 post f1 f2 f3 f4 f5 f6 f7 f8 f9 f10 f11 f12 f13 f14 f15 fu 0 root a1 a2 a3 a4 s a6 a7 a8 a9 a10 a11 a12 a13) : ∃ n, wX_emitTree_4 post root 0 f1 f2 f3 f4 f5 f6 f7 f8 f9 f10 f11 f12 f13 f14 f15 n (nI 0) a1 a2 a3 a4 a5 a6 a7 a8 a9 a10 a11 a12 a13 :=
  pk_loop (fun n i s => wX_emitTree_4 post root 0 f1 f2 f3 f4 f5 f6 f7 f8 f9 f10 f11 f12 f13 f14 f15 n (nI i) a1 a2 a3 a4 s a6 a7 a8 a9 a10 a11 a12 a13) (fun i s => ∀ j, j < i → s j = 0) N 0 a5 (by omega) (fun j hj => absurd hj (by omega))
    (fun n s hI => pk_le N N (fun _ => H s hI) (fun z => absurd z (by omega)) h5)
    (fun n i s hi hI hw => pk_le N i (fun z => absurd z (by omega)) (fun _ => ⟨pk_in i 96 (by omega), nm_r (e' := upd s i 0) (by rw [nI_clamp (by omega)]) (nm_r (nI_1 i) (hw _ (fun j hj => by
      by_cases e : j = i
      · rw [e, pk_us]
      · rw [pk_un e]
        exact hI j (by omega))))⟩) h5)
section
variable {J : Int32 → Int32 → (Nat → Int32) → (Nat → Int32) → (Nat → Int32) → (Nat → Int32) → (Nat → Int32) → (Nat → Int32) → (Nat → Int32) → (Nat → Int32) → (Nat → Int32) → (Nat → Int32) → (Nat → Int32) → (Nat → Int32) → (Nat → Int32) → Prop} {c k l d x y : Nat} {x2 : Int32}
theorem qm_w_e100 (hc : c < 96) (hl : a5 c = nI l) (h9 : l < 90) (hd : d < 90) (H : J (nI (if l ≤ d then d else l)) (qm_dn c) a1 a2 a3 a4 a5 a6 a7 a8 a9 a10 a11 a12 a13) : wX_emitTree_100 post J (nI d) (nI c) f1 f2 f3 f4 f5 f6 f7 f8 f9 f10 f11 f12 f13 f14 f15 a1 a2 a3 a4 a5 a6 a7 a8 a9 a10 a11 a12 a13 := by
  unfold wX_emitTree_100
  rw [nI_clamp (by omega), hl]
  refine ⟨pk_in c 96 hc, pk_le l d (fun z => nm_r (qm_dn1 c) ?_) (fun z => ⟨pk_in c 96 hc, nm_e (nm_r (qm_dn1 c) ?_)⟩)⟩
  · rw [if_pos z] at H
    exact H
  · rw [if_neg (by omega)] at H
    exact H
theorem qm_w_e60a (hc : c < 96) (hk : a2 c = nI k) (h3 : k < 3) (H : wX_emitTree_100 post J x2 (nI c) f1 f2 f3 f4 f5 f6 f7 f8 f9 f10 f11 f12 f13 f14 f15 a1 a2 a3 a4 a5 a6 a7 a8 a9 a10 a11 a12 a13) : wX_emitTree_60 post J x2 (nI c) f1 f2 f3 f4 f5 f6 f7 f8 f9 f10 f11 f12 f13 f14 f15 a1 a2 a3 a4 a5 a6 a7 a8 a9 a10 a11 a12 a13 := by
  unfold wX_emitTree_60
  rw [nI_clamp (by omega), hk]
  exact ⟨pk_in c 96 hc, br_t (nI_lt (b := 3) h3 (by omega)) H⟩
theorem qm_w_e60b (hc : c < 96) (hk : a2 c = nI k) (h3 : 3 ≤ k) (h7 : k ≤ 7) (hy : a4 c = nI y) (hy9 : y < 96) (H : wX_emitTree_100 post J x2 (nI c) f1 f2 f3 f4 f5 f6 f7 f8 f9 f10 f11 f12 f13 f14 f15 a1 a2 a3 a4 (upd a5 y (a5 c + 1)) a6 a7 a8 a9 a10 a11 a12 a13) : wX_emitTree_60 post J x2 (nI c) f1 f2 f3 f4 f5 f6 f7 f8 f9 f10 f11 f12 f13 f14 f15 a1 a2 a3 a4 a5 a6 a7 a8 a9 a10 a11 a12 a13 := by
  unfold wX_emitTree_60
  rw [nI_clamp (by omega), hk, hy]
  refine ⟨pk_in c 96 hc, pk_lt k 3 (fun z => absurd z (by omega)) (fun _ => ⟨pk_in c 96 hc, pk_lt 7 k (fun z => absurd z (by omega)) (fun _ => ⟨pk_in c 96 hc, pk_in c 96 hc, pk_in y 96 hy9, nm_r ?_ H⟩)⟩)⟩
  rw [nI_clamp (by omega)]
end
theorem qm_w_lev {ns : List qm_N} (hn : ns.length < 90) (h2 : qm_ar (fun n : qm_N => nI n.1) a2 ns) (h3 : qm_ar (fun n : qm_N => nI n.2.1) a3 ns) (h4 : qm_ar qm_rt a4 ns) : ∀ (c : Nat) (lv : List Nat) (d : Nat) (lv' : List Nat) (d' : Nat) (s : Nat → Int32),
    qm_lev ns c lv d = some (lv', d') → qm_ar nI s lv → (∀ s', qm_ar nI s' lv' → ∃ fu, wX_emitTree_125 post fu (nI d') f1 f2 f3 f4 f5 f6 f7 f8 f9 f10 f11 f12 f13 f14 f15 a1 a2 a3 a4 s' a6 a7 a8 a9 a10 a11 a12 a13) → wX_emitTree_27 post f1 f2 f3 f4 f5 f6 f7 f8 f9 f10 f11 f12 f13 f14 f15 (c + 1) (nI d) (qm_dn c) a1 a2 a3 a4 s a6 a7 a8 a9 a10 a11 a12 a13 := by
  intro c
  induction c with
  | zero =>
    intro lv d lv' d' s h hs H
    have e := Option.some.inj h
    cases e
    exact br_t (by decide) (H s hs)
  | succ c ih =>
    intro lv d lv' d' s h hs H
    simp only [qm_lev] at h
    split at h
    · rename_i k x y l hk hl
      have hc := qm_lt hk
      have hl' := hs c l hl
      have hk2 : a2 c = nI k := h2 c _ hk
      have hk3 : a3 c = nI x := h3 c _ hk
      split at h
      · rename_i hg
        refine br_f (nI_pos (by omega)) ⟨pk_in c 96 (by omega), ?_⟩
        split at h
        · rename_i hk0
          refine br_t (by rw [show (qm_dn (c + 1)).toNatClampNeg = c from nI_clamp (by omega), hk2]; exact nI_lt (b := 3) hk0 (by omega)) ?_
          exact qm_w_e60a (by omega) hk2 hk0 (qm_w_e100 (by omega) hl' hg.1 hg.2.1 (ih lv _ lv' d' s h hs H))
        · rename_i hk0
          split at h
          · rename_i hq
            have hk4 : a4 c = nI y := (h4 c _ hk).trans (if_neg hk0)
            refine br_f (by rw [show (qm_dn (c + 1)).toNatClampNeg = c from nI_clamp (by omega), hk2]; exact nI_nlt (b := 3) (by omega) (by omega)) ⟨pk_in c 96 (by omega), pk_in c 96 (by omega), pk_in x 96 (by omega) (by rw [show (qm_dn (c + 1)).toNatClampNeg = c from nI_clamp (by omega), hk3]), ?_⟩
            refine nm_r (e' := upd s x (nI (l + 1))) (by rw [show (qm_dn (c + 1)).toNatClampNeg = c from nI_clamp (by omega), hk3, nI_clamp (by omega), hl', nI_1]) ?_
            have hx : upd s x (nI (l + 1)) c = nI l := by rw [pk_un (by omega), hl']
            refine qm_w_e60b (by omega) hk2 (by omega) hq.1 hk4 (by omega) ?_
            rw [hx, nI_1]
            have hy : upd (upd s x (nI (l + 1))) y (nI (l + 1)) c = nI l := by rw [pk_un (by omega), hx]
            exact qm_w_e100 (by omega) hy hg.1 hg.2.1 (ih _ _ lv' d' _ h (qm_ar_set (qm_ar_set hs rfl) rfl) H)
          · cases h
      · cases h
    · cases h
end
section
variable {sr : List Nat} {vs : List Int32} {bs : List Nat} {t : Nat}
theorem qm_w_emit {post : St1 → Prop} {ns : List qm_N} {ts ws : List Nat} {i r : Nat} {cd cd' : List (Nat × Nat)} {f1 f2 f3 f4 f5 f6 f7 f8 f9 f10 f11 f12 f13 f14 f15 : Int32} {a1 a2 a3 a4 a5 a6 a7 a8 a9 a10 a11 a12 a13 : Nat → Int32} (h : qm_emit ns r cd = some cd') (hC : qm_C sr vs bs cd (t, ns, ts, ws, i) (f1, f2, f3, f4, f5, f6, f7, f8, f9, f10, f11, f12, f13, f14, f15, a1, a2, a3, a4, a5, a6, a7, a8, a9, a10, a11, a12, a13)) (H : ∀ u, qm_D sr vs (t, bs, cd') u → post u) : wpX_emitTree post (f1, f2, f3, f4, f5, f6, f7, f8, f9, f10, f11, f12, f13, f14, f15, a1, a2, a3, a4, a5, a6, a7, a8, a9, a10, a11, a12, a13) (nI r) := by
  obtain ⟨e1, e2, e3, e4, e5, e6, e7, e8, e9, e11, h13, h1, h2, h3, h4, h6, h7, h8, h9, h10⟩ := hC
  simp only [qm_emit] at h
  split at h
  · rename_i hg
    split at h
    · cases h
    · rename_i lv d hlv
      split at h
      · rename_i hd
        refine qm_w_e4 hg.2 e5 (fun s hs => ⟨r + 1 + 1, qm_w_lev hg.2 h2 h3 h4 (r + 1) _ 0 lv d s hlv (qm_ar_zero hs) (fun s' hs' => ⟨d + 1 + 1, ?_⟩)⟩)
        refine qm_w_em hg.2 (d + 1) cd cd' _ _ _ _ _ _ _ _ _ _ _ _ _ _ _ _ _ _ _ _ _ _ _ _ _ _ _ _ h (by omega) ⟨e1, e2, e3, e4, e5, e9, e11, h13, h1, h2, h3, hs', h8, h9, h10⟩ (fun u hu => ?_)
        obtain ⟨f1, f2, f3, f4, f5, f6, f7, f8, f9, f10, f11, f12, f13, f14, f15, a1, a2, a3, a4, a5, a6, a7, a8, a9, a10, a11, a12, a13⟩ := u
        obtain ⟨e1, e2, e3, e4, e5, e9, e11, h13, h1, h2, h3, hs', h8, h9, h10⟩ := hu
        exact H _ ⟨e1, e2, e3, e4, e9, e11, h13, h1, h8, h9, h10⟩
      · cases h
  · cases h
theorem qm_w_sum {post : St1 → Prop} {t' : Nat} {cd cd' : List (Nat × Nat)} {f1 f2 f3 f4 f5 f6 f7 f8 f9 f10 f11 f12 f13 f14 f15 : Int32} {a1 a2 a3 a4 a5 a6 a7 a8 a9 a10 a11 a12 a13 : Nat → Int32} (hs : qm_S sr) (h : qm_sum sr t cd = some (t', cd')) (hD : qm_D sr vs (t, bs, cd) (f1, f2, f3, f4, f5, f6, f7, f8, f9, f10, f11, f12, f13, f14, f15, a1, a2, a3, a4, a5, a6, a7, a8, a9, a10, a11, a12, a13)) (H : ∀ u, qm_D sr vs (t', bs, cd') u → post u) : wpX_sum post (f1, f2, f3, f4, f5, f6, f7, f8, f9, f10, f11, f12, f13, f14, f15, a1, a2, a3, a4, a5, a6, a7, a8, a9, a10, a11, a12, a13) := by
  obtain ⟨e1, e2, e3, e4, e9, e11, h13, h1, h8, h9, h10⟩ := hD
  simp only [qm_sum] at h
  split at h
  · cases h
  · rename_i t1 ns ts ws i hL
    split at h
    · cases h
    · rename_i ns' ts' ws' hr
      split at h
      · rename_i r
        obtain ⟨c1, hc1, hc2⟩ := Option.map_eq_some_iff.mp h
        cases hc2
        refine ⟨101, qm_w_sumL (vs := vs) (bs := bs) (cd := cd) hs 100 true (t, [], [], [], 0) _ 0 _ _ _ _ _ _ _ _ _ _ _ _ _ _ _ _ _ _ _ _ _ _ _ _ _ _ _ _ hL (by omega) ⟨e1, e2, e3, e4, rfl, rfl, rfl, rfl, e9, e11, h13, h1, qm_ar_nil, qm_ar_nil, qm_ar_nil, qm_ar_nil, qm_ar_nil, h8, h9, h10⟩ ?_⟩
        intro f1 f2 f3 f4 f5 f6 f7 f8 f9 f10 f11 f12 f13 f14 f15 a1 a2 a3 a4 a5 a6 a7 a8 a9 a10 a11 a12 a13 hC
        have e3 : f3 = 0 := hC.2.2.1
        refine br_t e3 (qm_w_reduceTo (least := 1) (by omega) hr hC (fun u hu => ?_))
        obtain ⟨f1, f2, f3, f4, f5, f6, f7, f8, f9, f10, f11, f12, f13, f14, f15, a1, a2, a3, a4, a5, a6, a7, a8, a9, a10, a11, a12, a13⟩ := u
        have e7 : f7 = nI 0 := hu.2.2.2.2.2.2.1
        have h6 : qm_ar nI a6 [r] := hu.2.2.2.2.2.2.2.2.2.2.2.2.2.2.2.1
        have er : a6 0 = nI r := h6 0 r rfl
        refine br_t (by rw [e7]; decide) ?_
        dsimp only
        rw [er]
        exact qm_w_emit hc1 hu (fun u hu => by obtain ⟨f1, f2, f3, f4, f5, f6, f7, f8, f9, f10, f11, f12, f13, f14, f15, a1, a2, a3, a4, a5, a6, a7, a8, a9, a10, a11, a12, a13⟩ := u; exact H _ hu)
      · cases h
end
end
section
/-! ===== statements ===== -/
section
variable {sr : List Nat} {vs : List Int32} {bs : List Nat} {t : Nat} {cd : List (Nat × Nat)}
theorem qm_w_open {post : St1 → Prop} {w x : Nat} {f1 f2 f3 f4 f5 f6 f7 f8 f9 f10 f11 f12 f13 f14 f15 : Int32} {a1 a2 a3 a4 a5 a6 a7 a8 a9 a10 a11 a12 a13 : Nat → Int32} (hb : bs.length < 3) (hc : cd.length < 200) (hD : qm_D sr vs (t, bs, cd) (f1, f2, f3, f4, f5, f6, f7, f8, f9, f10, f11, f12, f13, f14, f15, a1, a2, a3, a4, a5, a6, a7, a8, a9, a10, a11, a12, a13)) (H : ∀ u, qm_D sr vs (t, cd.length :: bs, cd ++ [(w, x)]) u → post u) : wpX_open post (f1, f2, f3, f4, f5, f6, f7, f8, f9, f10, f11, f12, f13, f14, f15, a1, a2, a3, a4, a5, a6, a7, a8, a9, a10, a11, a12, a13) (nI w) (nI x) := by
  obtain ⟨e1, e2, e3, e4, e9, e11, h13, h1, h8, h9, h10⟩ := hD
  refine pk_le 40 bs.length (fun z => absurd z (by omega)) (fun _ => ⟨pk_in bs.length 40 (by omega) e9, nm_r (e' := upd a8 bs.length (nI cd.length)) (by rw [e9, nI_clamp (by omega), e11]) ?_⟩) rfl e9
  refine nm_r (e' := nI (bs.length + 1)) (by rw [e9, nI_1]) (pk_le (bs.length + 1) 3 (fun _ => ?_) (fun z => absurd z (by omega)))
  unfold wX_open_45
  refine qm_w_put hc e11 (H _ ?_)
  exact ⟨e1, e2, e3, e4, rfl, qm_len', h13, h1, qm_st_push h8 rfl, qm_ar_push h9 rfl, qm_ar_push h10 rfl⟩
theorem qm_w_close {post : St1 → Prop} {bs' : List Nat} {cd' : List (Nat × Nat)} {f1 f2 f3 f4 f5 f6 f7 f8 f9 f10 f11 f12 f13 f14 f15 : Int32} {a1 a2 a3 a4 a5 a6 a7 a8 a9 a10 a11 a12 a13 : Nat → Int32} (h : qm_close bs cd = some (bs', cd')) (hD : qm_D sr vs (t, bs, cd) (f1, f2, f3, f4, f5, f6, f7, f8, f9, f10, f11, f12, f13, f14, f15, a1, a2, a3, a4, a5, a6, a7, a8, a9, a10, a11, a12, a13)) (H : ∀ u, qm_D sr vs (t, bs', cd') u → post u) : wpX_close post (f1, f2, f3, f4, f5, f6, f7, f8, f9, f10, f11, f12, f13, f14, f15, a1, a2, a3, a4, a5, a6, a7, a8, a9, a10, a11, a12, a13) := by
  obtain ⟨e1, e2, e3, e4, e9, e11, h13, h1, h8, h9, h10⟩ := hD
  cases bs with
  | nil => simp [qm_close] at h
  | cons s bs =>
    simp only [qm_close] at h
    split at h
    · cases h
    · rename_i o x hs
      split at h
      · rename_i hg
        have e := Option.some.inj h
        have eb := (Prod.mk.inj e).1
        have ec := (Prod.mk.inj e).2
        subst eb ec
        have e9' : f9 = nI (bs.length + 1) := e9
        have hsl := qm_lt hs
        have hst : a8 bs.length = nI s := qm_st_top h8
        have ho : a9 s = nI o := h9 s _ hs
        refine br_f (by rw [e9']; exact nI_ne0 (Nat.succ_pos _) (by omega)) (nm_r (e' := nI bs.length) (by rw [e9']; exact nI_pred _) (pk_le 40 bs.length (fun z => absurd z (by omega)) (fun _ => ?_)))
        refine ⟨pk_in bs.length 40 (by omega), nm_r (e' := nI s) (by rw [nI_clamp (by omega)]; exact hst) ⟨pk_in s 200 (by omega), ?_⟩⟩
        rw [nI_clamp (show s < 2 ^ 31 by omega), ho]
        refine pk_eq o 12 (fun z => ?_) (fun z => ⟨pk_in s 200 (by omega), ?_⟩)
        · rw [if_pos z] at H
          refine qm_w_put (n := cd.length) (by omega) e11 (H _ ?_)
          exact ⟨e1, e2, e3, e4, rfl, qm_len', h13, h1, qm_st_pop h8, qm_ar_push h9 rfl, qm_ar_push h10 rfl⟩
        · rw [if_neg z] at H
          refine nm_r (e' := upd a10 s (nI cd.length)) (by rw [e11]) (H _ ?_)
          exact ⟨e1, e2, e3, e4, rfl, by rw [List.length_set]; exact e11, h13, h1, qm_st_pop h8, qm_ar_set' h9 hs rfl, qm_ar_set h10 rfl⟩
      · cases h
theorem qm_w_stmt {post : St1 → Prop} {q' : qm_T} {f1 f2 f3 f4 f5 f6 f7 f8 f9 f10 f11 f12 f13 f14 f15 : Int32} {a1 a2 a3 a4 a5 a6 a7 a8 a9 a10 a11 a12 a13 : Nat → Int32} (hs : qm_S sr) (h : qm_stmt sr (t, bs, cd) = some q') (hD : qm_D sr vs (t, bs, cd) (f1, f2, f3, f4, f5, f6, f7, f8, f9, f10, f11, f12, f13, f14, f15, a1, a2, a3, a4, a5, a6, a7, a8, a9, a10, a11, a12, a13)) (H : ∀ u, qm_D sr vs q' u → post u) : wpX_statement post (f1, f2, f3, f4, f5, f6, f7, f8, f9, f10, f11, f12, f13, f14, f15, a1, a2, a3, a4, a5, a6, a7, a8, a9, a10, a11, a12, a13) := by
  have hD' := hD
  obtain ⟨e1, e2, e3, e4, e9, e11, h13, h1, h8, h9, h10⟩ := hD'
  unfold wpX_statement
  dsimp only
  simp only [qm_stmt] at h
  split at h
  · cases h
  · rename_i c hc
    have hc8 := qm_S_c hs hc
    refine qm_w_peek hs hc e1 e2 h1 (nm_r (e' := nI (t + 1)) (by rw [e2, nI_1]) ?_)
    have hD1 : qm_D sr vs (t + 1, bs, cd) (f1, nI (t + 1), f3, f4, f5, f6, f7, f8, f9, f10, f11, f12, f13, f14, f15, a1, a2, a3, a4, a5, a6, a7, a8, a9, a10, a11, a12, a13) := ⟨e1, rfl, e3, e4, e9, e11, h13, h1, h8, h9, h10⟩
    split at h
    · rename_i hl
      refine qm_w_let1 hl (br_f (by decide) ?_)
      split at h
      · rename_i h61
        refine qm_w_acc hs h61 e1 rfl h1 rfl ?_
        dsimp only
        refine br_t e3 ?_
        split at h
        · cases h
        · rename_i t' cd' hsum
          split at h
          · rename_i hg
            have e := Option.some.inj h
            cases e
            have hD2 : qm_D sr vs (t + 2, bs, cd) (f1, nI (t + 1 + 1), f3, f4, f5, f6, f7, f8, f9, f10, f11, f12, f13, f14, f15, a1, a2, a3, a4, a5, a6, a7, a8, a9, a10, a11, a12, a13) := ⟨e1, rfl, e3, e4, e9, e11, h13, h1, h8, h9, h10⟩
            refine qm_w_sum hs hsum hD2 (fun u hu => ?_)
            obtain ⟨f1, f2, f3, f4, f5, f6, f7, f8, f9, f10, f11, f12, f13, f14, f15, a1, a2, a3, a4, a5, a6, a7, a8, a9, a10, a11, a12, a13⟩ := u
            dsimp only
            obtain ⟨e1, e2, e3, e4, e9, e11, h13, h1, h8, h9, h10⟩ := hu
            refine qm_w_put hg.1 e11 ?_
            dsimp only
            refine qm_w_acc hs hg.2 e1 e2 h1 rfl (H _ ?_)
            exact ⟨e1, rfl, e3, e4, e9, qm_len', h13, h1, h8, qm_ar_push h9 rfl, qm_ar_push h10 (pk_sub hl.1)⟩
          · cases h
      · cases h
    · rename_i hl
      refine qm_w_let0 hc8 hl (br_t rfl ?_)
      split at h
      · rename_i h63
        refine br_t (by rw [h63]; rfl) ?_
        split at h
        · cases h
        · rename_i t' cd' hsum
          split at h
          · rename_i hg
            have e := Option.some.inj h
            cases e
            refine qm_w_sum hs hsum hD1 (fun u hu => ?_)
            obtain ⟨f1, f2, f3, f4, f5, f6, f7, f8, f9, f10, f11, f12, f13, f14, f15, a1, a2, a3, a4, a5, a6, a7, a8, a9, a10, a11, a12, a13⟩ := u
            dsimp only
            obtain ⟨e1, e2, e3, e4, e9, e11, h13, h1, h8, h9, h10⟩ := hu
            refine qm_w_acc hs hg.2.1 e1 e2 h1 rfl ?_
            dsimp only
            refine qm_w_open (t := t' + 1) (w := 11) (x := 0) (bs := bs) hg.2.2 hg.1 ⟨e1, rfl, e3, e4, e9, e11, h13, h1, h8, h9, h10⟩ (fun u hu => ?_)
            obtain ⟨f1, f2, f3, f4, f5, f6, f7, f8, f9, f10, f11, f12, f13, f14, f15, a1, a2, a3, a4, a5, a6, a7, a8, a9, a10, a11, a12, a13⟩ := u
            exact H _ hu
          · cases h
      · rename_i h63
        refine pk_eq c 63 (fun z => absurd z h63) (fun _ => ?_)
        split at h
        · rename_i h35
          refine br_t (by rw [h35]; rfl) ?_
          unfold wpX_turns
          dsimp only
          split at h
          · cases h
          · rename_i d hd
            split at h
            · rename_i hg
              have e := Option.some.inj h
              cases e
              refine qm_w_peek hs hd e1 rfl h1 (qm_w_dig1 hg.1 (br_f (by decide) (nm_r (e' := nI (t + 2)) (nI_1 _) ?_)))
              refine qm_w_acc hs hg.2.1 e1 rfl h1 rfl ?_
              dsimp only
              rw [show nI d - 48 = nI (d - 48) from pk_sub hg.1.1]
              refine qm_w_open (t := t + 3) (w := 12) (bs := bs) hg.2.2.1 hg.2.2.2 ⟨e1, rfl, e3, e4, e9, e11, h13, h1, h8, h9, h10⟩ (fun u hu => ?_)
              obtain ⟨f1, f2, f3, f4, f5, f6, f7, f8, f9, f10, f11, f12, f13, f14, f15, a1, a2, a3, a4, a5, a6, a7, a8, a9, a10, a11, a12, a13⟩ := u
              exact H _ hu
            · cases h
        · rename_i h35
          refine pk_eq c 35 (fun z => absurd z h35) (fun _ => ?_)
          split at h
          · rename_i h125
            refine br_t (by rw [h125]; rfl) ?_
            obtain ⟨⟨bs', cd'⟩, hq1, hq2⟩ := Option.map_eq_some_iff.mp h
            cases hq2
            refine qm_w_close hq1 hD1 (fun u hu => ?_)
            obtain ⟨f1, f2, f3, f4, f5, f6, f7, f8, f9, f10, f11, f12, f13, f14, f15, a1, a2, a3, a4, a5, a6, a7, a8, a9, a10, a11, a12, a13⟩ := u
            exact H _ hu
          · cases h
theorem qm_w_cmpL {post : Int32 → St1 → Prop} {cd' : List (Nat × Nat)} (hs : qm_S sr) (H : ∀ u, qm_G cd' vs u → post 0 u) : ∀ (k : Nat) (q : qm_T) (j : Nat) (f1 f2 f3 f4 f5 f6 f7 f8 f9 f10 f11 f12 f13 f14 f15 : Int32) (a1 a2 a3 a4 a5 a6 a7 a8 a9 a10 a11 a12 a13 : Nat → Int32), qm_cmpL sr k q = some cd' → j + k ≤ 80 → qm_D sr vs q (f1, f2, f3, f4, f5, f6, f7, f8, f9, f10, f11, f12, f13, f14, f15, a1, a2, a3, a4, a5, a6, a7, a8, a9, a10, a11, a12, a13) → wX_compile_32 post k (nI j) f1 f2 f3 f4 f5 f6 f7 f8 f9 f10 f11 f12 f13 f14 f15 a1 a2 a3 a4 a5 a6 a7 a8 a9 a10 a11 a12 a13 := by
  intro k
  induction k with
  | zero =>
    intro q j f1 f2 f3 f4 f5 f6 f7 f8 f9 f10 f11 f12 f13 f14 f15 a1 a2 a3 a4 a5 a6 a7 a8 a9 a10 a11 a12 a13 h
    simp [qm_cmpL] at h
  | succ k ih =>
    intro q j f1 f2 f3 f4 f5 f6 f7 f8 f9 f10 f11 f12 f13 f14 f15 a1 a2 a3 a4 a5 a6 a7 a8 a9 a10 a11 a12 a13 h hj hD
    obtain ⟨t, bs, cd⟩ := q
    have hD' := hD
    obtain ⟨e1, e2, e3, e4, e9, e11, h13, h1, h8, h9, h10⟩ := hD'
    have h80 := hs.1
    refine pk_le 80 j (fun z => absurd z (by omega)) (fun _ => ?_)
    simp only [qm_cmpL] at h
    split at h
    · rename_i ht
      split at h
      · rename_i hb
        have e := Option.some.inj h
        cases e
        refine pk_le sr.length t (fun _ => ?_) (fun z => absurd z (by omega)) e1 e2
        have e9' : f9 = nI 0 := by rw [e9, hb]; rfl
        exact br_t e3 (br_t (by rw [e9']; decide) (br_t e4 (H _ ⟨rfl, e11, h13, h9, h10⟩)))
      · cases h
    · rename_i ht
      split at h
      · rename_i ht'
        refine pk_le sr.length t (fun z => absurd z (by omega)) (fun _ => br_t e3 ?_) e1 e2
        split at h
        · cases h
        · rename_i s hst
          refine qm_w_stmt hs hst hD (fun u hu => ?_)
          obtain ⟨f1, f2, f3, f4, f5, f6, f7, f8, f9, f10, f11, f12, f13, f14, f15, a1, a2, a3, a4, a5, a6, a7, a8, a9, a10, a11, a12, a13⟩ := u
          exact nm_r (nI_1 j) (ih s (j + 1) _ _ _ _ _ _ _ _ _ _ _ _ _ _ _ _ _ _ _ _ _ _ _ _ _ _ _ _ h (by omega) hu)
      · cases h
theorem qm_w_compile {post : Int32 → St1 → Prop} {cd' : List (Nat × Nat)} {f1 f2 f3 f4 f5 f6 f7 f8 f9 f10 f11 f12 f13 f14 f15 : Int32} {a1 a2 a3 a4 a5 a6 a7 a8 a9 a10 a11 a12 a13 : Nat → Int32} (hs : qm_S sr) (h : qm_cmp sr = some cd') (hI : qm_I sr vs (f1, f2, f3, f4, f5, f6, f7, f8, f9, f10, f11, f12, f13, f14, f15, a1, a2, a3, a4, a5, a6, a7, a8, a9, a10, a11, a12, a13)) (H : ∀ u, qm_G cd' vs u → post 0 u) : wpX_compile post (f1, f2, f3, f4, f5, f6, f7, f8, f9, f10, f11, f12, f13, f14, f15, a1, a2, a3, a4, a5, a6, a7, a8, a9, a10, a11, a12, a13) := by
  obtain ⟨e1, h13, h1⟩ := hI
  exact ⟨40, qm_w_cmpL hs H 40 (0, [], []) 0 _ _ _ _ _ _ _ _ _ _ _ _ _ _ _ _ _ _ _ _ _ _ _ _ _ _ _ _ h (by omega) ⟨e1, rfl, rfl, rfl, rfl, rfl, h13, h1, qm_ar_nil, qm_ar_nil, qm_ar_nil⟩⟩
end
end
section
/-! ===== the machine as a plain function ===== -/
/-- the next operation, places taken, all that was appended, turns left (the innermost first), assignments, variables -/
abbrev qm_Z : Type := Nat × Nat × List Int32 × List Nat × Nat × List Int32
def qm_cal (o : Nat) (p q : Int32) : Int32 := if o = 3 then p + q else if o = 4 then p - q else if o = 5 then p * q else if q ≤ p then 0 else 1
def qm_find (cd : List (Nat × Nat)) : Nat → Nat → Option Nat
  | 0, _ => none
  | k + 1, e => if e + 1 < cd.length then (match cd[e]? with
      | none => none
      | some (o, _) => if o < 13 then qm_find cd k (e + 1) else none)
    else if e + 1 = cd.length then some (e + 1) else none
def qm_step (cd : List (Nat × Nat)) : qm_Z → Option qm_Z
  | (pc, h, rl, tl, st, vs) => match cd[pc]? with
    | none => none
    | some (o, x) =>
      if rl.length < 120 ∧ st < 100 ∧ tl.length < 3 ∧ x < 1000 then
        (if o = 1 then some (pc + 1, h, rl ++ [nI x], tl, st, vs)
        else if o = 2 then (match vs[x]? with
          | none => none
          | some v => if x < 8 then some (pc + 1, h, rl ++ [v], tl, st, vs) else none)
        else if 3 ≤ o ∧ o ≤ 6 then (match rl[h]?, rl[h + 1]? with
          | some p, some q => some (pc + 1, h + 2, rl ++ [qm_cal o p q], tl, st, vs)
          | _, _ => none)
        else if o = 10 then (match rl[h]? with
          | none => none
          | some v => if x < 8 then some (pc + 1, h + 1, rl, tl, st + 1, vs.set x v) else none)
        else if o = 11 then (match rl[h]? with
          | none => none
          | some v => some (if v = 0 then x else pc + 1, h + 1, rl, tl, st, vs))
        else if o = 12 then (if 0 < x then some (pc + 1, h, rl, x :: tl, st, vs) else (match qm_find cd 200 (pc + 1) with
          | none => none
          | some e => some (e, h, rl, tl, st, vs)))
        else if o = 13 then (match tl with
          | [] => none
          | n :: tl => if 0 < n ∧ n < 1000 then (if 1 < n then some (x + 1, h, rl, (n - 1) :: tl, st, vs) else some (pc + 1, h, rl, tl, st, vs)) else none)
        else none)
      else none
def qm_exec (cd : List (Nat × Nat)) : Nat → qm_Z → Option (Nat × List Int32)
  | 0, _ => none
  | k + 1, z => if z.1 < 1000 then (if cd.length ≤ z.1 then some (z.2.2.2.2.1, z.2.2.2.2.2) else match qm_step cd z with
      | none => none
      | some z' => qm_exec cd k z') else none
/-- while the machine runs -/
def qm_X (cd : List (Nat × Nat)) : qm_Z → St1 → Prop
  | (_, h, rl, tl, st, vs), (f1, f2, f3, f4, f5, f6, f7, f8, f9, f10, f11, f12, f13, f14, f15, a1, a2, a3, a4, a5, a6, a7, a8, a9, a10, a11, a12, a13) => f11 = nI cd.length ∧ f12 = nI h ∧ f13 = nI rl.length ∧ f14 = nI tl.length ∧ f15 = nI st ∧ qm_ar (fun x => x) a11 rl ∧ qm_ar nI a12 tl.reverse ∧ qm_ar (fun x => x) a13 vs
    ∧ qm_ar (fun c : Nat × Nat => nI c.1) a9 cd ∧ qm_ar (fun c : Nat × Nat => nI c.2) a10 cd
/-- the variables alone -/
def qm_V (vs : List Int32) : St1 → Prop
  | (f1, f2, f3, f4, f5, f6, f7, f8, f9, f10, f11, f12, f13, f14, f15, a1, a2, a3, a4, a5, a6, a7, a8, a9, a10, a11, a12, a13) => qm_ar (fun x => x) a13 vs
section
variable {f1 f2 f3 f4 f5 f6 f7 f8 f9 f10 f11 f12 f13 f14 f15 : Int32} {a1 a2 a3 a4 a5 a6 a7 a8 a9 a10 a11 a12 a13 : Nat → Int32}
theorem qm_m127 {n : Nat} (h : n < 127) : (nI n + 1) &&& 127 = nI (n + 1) := by
  rw [nI_1, pk_andN (by omega) 7 (by decide), Nat.mod_eq_of_lt (by omega)]
theorem qm_w_take {post : Int32 → St1 → Prop} {h : Nat} {v : Int32} (hh : h < 127) (e : f12 = nI h) (hv : a11 h = v) (H : post v (f1, f2, f3, f4, f5, f6, f7, f8, f9, f10, f11, nI (h + 1), f13, f14, f15, a1, a2, a3, a4, a5, a6, a7, a8, a9, a10, a11, a12, a13)) : wpX_take post (f1, f2, f3, f4, f5, f6, f7, f8, f9, f10, f11, f12, f13, f14, f15, a1, a2, a3, a4, a5, a6, a7, a8, a9, a10, a11, a12, a13) := by
  subst e
  exact ⟨pk_in h 128 (by omega), nm_r (by rw [nI_clamp (by omega)]; exact hv) (nm_r (qm_m127 hh) H)⟩
theorem qm_w_take2 {post : Int32 → St1 → Prop} {h : Nat} {v : Int32} (hh : h < 127) (e : f12 = nI h) (hv : a11 h = v) (H : post v (f1, f2, f3, f4, f5, f6, f7, f8, f9, f10, f11, nI (h + 1), f13, f14, f15, a1, a2, a3, a4, a5, a6, a7, a8, a9, a10, a11, a12, a13)) : wpX_take_2 post (f1, f2, f3, f4, f5, f6, f7, f8, f9, f10, f11, f12, f13, f14, f15, a1, a2, a3, a4, a5, a6, a7, a8, a9, a10, a11, a12, a13) := by
  subst e
  exact ⟨pk_in h 128 (by omega), nm_r (by rw [nI_clamp (by omega)]; exact hv) (nm_r (qm_m127 hh) H)⟩
theorem qm_w_app {post : St1 → Prop} {n : Nat} {v : Int32} (hn : n < 127) (e : f13 = nI n) (H : post (f1, f2, f3, f4, f5, f6, f7, f8, f9, f10, f11, f12, nI (n + 1), f14, f15, a1, a2, a3, a4, a5, a6, a7, a8, a9, a10, upd a11 n v, a12, a13)) : wpX_append post (f1, f2, f3, f4, f5, f6, f7, f8, f9, f10, f11, f12, f13, f14, f15, a1, a2, a3, a4, a5, a6, a7, a8, a9, a10, a11, a12, a13) v := by
  subst e
  exact ⟨pk_in n 128 (by omega), nm_r (by rw [nI_clamp (by omega)]) (nm_r (qm_m127 hn) H)⟩
theorem qm_w_bop {post : St1 → Prop} {o h n : Nat} {x p q : Int32} (ho : 3 ≤ o ∧ o ≤ 6) (hh : h < 120) (e12 : f12 = nI h) (hp : a11 h = p) (hq : a11 (h + 1) = q) (hn : n < 127) (e13 : f13 = nI n)
    (H : post (f1, f2, f3, f4, f5, f6, f7, f8, f9, f10, f11, nI (h + 2), nI (n + 1), f14, f15, a1, a2, a3, a4, a5, a6, a7, a8, a9, a10, upd a11 n (qm_cal o p q), a12, a13)) : wpX_calculate post (f1, f2, f3, f4, f5, f6, f7, f8, f9, f10, f11, f12, f13, f14, f15, a1, a2, a3, a4, a5, a6, a7, a8, a9, a10, a11, a12, a13) (nI o) x := by
  unfold wpX_calculate
  dsimp only
  refine pk_eq o 1 (fun z => absurd z (by omega)) (fun _ => pk_eq o 2 (fun z => absurd z (by omega)) (fun _ => qm_w_take (by omega) e12 hp (pk_eq o 8 (fun z => absurd z (by omega)) (fun _ => qm_w_take (h := h + 1) (by omega) rfl hq ?_))))
  unfold qm_cal at H
  refine pk_lt o 3 (fun z => absurd z (by omega)) (fun _ => pk_lt 6 o (fun z => absurd z (by omega)) (fun _ => ?_))
  refine pk_eq o 3 (fun z => ?_) (fun z3 => ?_)
  · rw [if_pos z] at H
    exact qm_w_app hn e13 H
  rw [if_neg z3] at H
  refine pk_eq o 4 (fun z => ?_) (fun z4 => ?_)
  · rw [if_pos z] at H
    exact qm_w_app hn e13 H
  rw [if_neg z4] at H
  refine pk_eq o 5 (fun z => ?_) (fun z5 => ?_)
  · rw [if_pos z] at H
    exact qm_w_app hn e13 H
  rw [if_neg z5] at H
  refine pk_eq o 6 (fun z => ?_) (fun z6 => absurd (show o = 6 by omega) z6)
  refine br_c (fun g => ?_) (fun g => ?_)
  · rw [if_pos g] at H
    unfold wX_calculate_129
    exact qm_w_app hn e13 H
  · rw [if_neg g] at H
    unfold wX_calculate_129
    exact qm_w_app hn e13 H
theorem qm_w_lit {post : St1 → Prop} {n : Nat} {x : Int32} (hn : n < 127) (e13 : f13 = nI n) (H : post (f1, f2, f3, f4, f5, f6, f7, f8, f9, f10, f11, f12, nI (n + 1), f14, f15, a1, a2, a3, a4, a5, a6, a7, a8, a9, a10, upd a11 n x, a12, a13)) : wpX_calculate post (f1, f2, f3, f4, f5, f6, f7, f8, f9, f10, f11, f12, f13, f14, f15, a1, a2, a3, a4, a5, a6, a7, a8, a9, a10, a11, a12, a13) (nI 1) x := by
  unfold wpX_calculate
  dsimp only
  exact br_t rfl (qm_w_app hn e13 H)
theorem qm_w_var {post : St1 → Prop} {n x : Nat} {v : Int32} (hx : x < 8) (hv : a13 x = v) (hn : n < 127) (e13 : f13 = nI n) (H : post (f1, f2, f3, f4, f5, f6, f7, f8, f9, f10, f11, f12, nI (n + 1), f14, f15, a1, a2, a3, a4, a5, a6, a7, a8, a9, a10, upd a11 n v, a12, a13)) : wpX_calculate post (f1, f2, f3, f4, f5, f6, f7, f8, f9, f10, f11, f12, f13, f14, f15, a1, a2, a3, a4, a5, a6, a7, a8, a9, a10, a11, a12, a13) (nI 2) (nI x) := by
  unfold wpX_calculate
  dsimp only
  refine br_f (by decide) (br_t rfl ⟨pk_in x 8 hx, ?_⟩)
  rw [nI_clamp (by omega), hv]
  exact qm_w_app hn e13 H
theorem qm_w_find {post : Int32 → St1 → Prop} {cd : List (Nat × Nat)} {x1 : Int32} (hcd : cd.length ≤ 200) (e11 : f11 = nI cd.length) (h9 : qm_ar (fun c : Nat × Nat => nI c.1) a9 cd) : ∀ (k e e' j : Nat), qm_find cd k e = some e' → j + k ≤ 200 → post (nI e') (f1, f2, f3, f4, f5, f6, f7, f8, f9, f10, f11, f12, f13, f14, f15, a1, a2, a3, a4, a5, a6, a7, a8, a9, a10, a11, a12, a13) →
    wX_beginTurns_53 post x1 f1 f2 f3 f4 f5 f6 f7 f8 f9 f10 f11 f12 f13 f14 f15 a1 a2 a3 a4 a5 a6 a7 a8 a9 a10 a11 a12 a13 k (nI e) (nI j) := by
  intro k
  induction k with
  | zero =>
    intro e e' j h
    simp [qm_find] at h
  | succ k ih =>
    intro e e' j h hj H
    simp only [qm_find] at h
    split at h
    · rename_i hl
      have el : f11 - 1 = nI (cd.length - 1) := by rw [e11]; exact pk_sub (b := 1) (by omega)
      refine pk_le 200 j (fun z => absurd z (by omega)) (fun _ => pk_le (cd.length - 1) e (fun z => absurd z (by omega)) (fun _ => ?_) el)
      split at h
      · cases h
      · rename_i o x hox
        split at h
        · rename_i ho
          refine ⟨pk_in e 200 (by omega), pk_eq o 13 (fun z => absurd z (by omega)) (fun _ => nm_r (nI_1 e) (nm_r (nI_1 j) (ih (e + 1) e' (j + 1) h (by omega) H))) ?_⟩
          rw [nI_clamp (by omega)]
          exact h9 e _ hox
        · cases h
    · split at h
      · rename_i hl
        have ee := Option.some.inj h
        have el : f11 - 1 = nI (cd.length - 1) := by rw [e11]; exact pk_sub (b := 1) (by omega)
        subst ee
        refine pk_le 200 j (fun z => absurd z (by omega)) (fun _ => pk_le (cd.length - 1) e (fun _ => ?_) (fun z => absurd z (by omega)) el)
        rw [nI_1]
        exact H
      · cases h
end
theorem qm_w_perf {post : Int32 → St1 → Prop} {cd : List (Nat × Nat)} {z z' : qm_Z} {f1 f2 f3 f4 f5 f6 f7 f8 f9 f10 f11 f12 f13 f14 f15 : Int32} {a1 a2 a3 a4 a5 a6 a7 a8 a9 a10 a11 a12 a13 : Nat → Int32} (hcd : cd.length ≤ 200) (h : qm_step cd z = some z') (hX : qm_X cd z (f1, f2, f3, f4, f5, f6, f7, f8, f9, f10, f11, f12, f13, f14, f15, a1, a2, a3, a4, a5, a6, a7, a8, a9, a10, a11, a12, a13)) (H : ∀ u, qm_X cd z' u → post (nI z'.1) u) : wpX_perform post (f1, f2, f3, f4, f5, f6, f7, f8, f9, f10, f11, f12, f13, f14, f15, a1, a2, a3, a4, a5, a6, a7, a8, a9, a10, a11, a12, a13) (nI z.1) := by
  obtain ⟨pc, h0, rl, tl, st, vs⟩ := z
  obtain ⟨e11, e12, e13, e14, e15, h11, h12, h13, h9, h10⟩ := hX
  simp only [qm_step] at h
  split at h
  · cases h
  · rename_i o x hox
    have hpc := qm_lt hox
    have epc : (nI pc).toNatClampNeg = pc := nI_clamp (by omega)
    split at h
    · rename_i hg
      refine ⟨pk_in pc 200 (by omega), nm_r (e' := nI o) (by dsimp only; rw [epc]; exact h9 pc _ hox) ⟨pk_in pc 200 (by omega), nm_r (e' := nI x) (by dsimp only; rw [epc]; exact h10 pc _ hox) ?_⟩⟩
      dsimp only
      split at h
      · rename_i ho
        subst ho
        have e := Option.some.inj h
        cases e
        refine br_f (by decide) (qm_w_lit (n := rl.length) (by omega) e13 ?_)
        dsimp only
        rw [nI_1]
        exact H _ ⟨e11, e12, qm_len', e14, e15, qm_ar_push h11 rfl, h12, h13, h9, h10⟩
      split at h
      · rename_i ho
        subst ho
        split at h
        · cases h
        · rename_i v hv
          split at h
          · rename_i hx8
            have e := Option.some.inj h
            cases e
            refine br_f (by decide) (qm_w_var (n := rl.length) hx8 (h13 x v hv) (by omega) e13 ?_)
            dsimp only
            rw [nI_1]
            exact H _ ⟨e11, e12, qm_len', e14, e15, qm_ar_push h11 rfl, h12, h13, h9, h10⟩
          · cases h
      split at h
      · rename_i ho
        split at h
        · rename_i p q hp hq
          have e := Option.some.inj h
          cases e
          have hh := qm_lt hq
          refine pk_lt 8 o (fun z => absurd z (by omega)) (fun _ => qm_w_bop (n := rl.length) ho (by omega) e12 (h11 _ _ hp) (h11 _ _ hq) (by omega) e13 ?_)
          dsimp only
          rw [nI_1]
          exact H _ ⟨e11, rfl, qm_len', e14, e15, qm_ar_push h11 rfl, h12, h13, h9, h10⟩
        · cases h
      split at h
      · rename_i ho
        subst ho
        split at h
        · cases h
        · rename_i v hv
          split at h
          · rename_i hx8
            have e := Option.some.inj h
            cases e
            have hh := qm_lt hv
            refine br_t (by decide) (br_t rfl (qm_w_take2 (by omega) e12 (h11 _ _ hv) ?_))
            dsimp only
            rw [nI_1]
            refine ⟨pk_in x 8 hx8, nm_r (e' := upd a13 x v) (by rw [nI_clamp (by omega)]) (nm_r (e' := nI (st + 1)) (by rw [e15, nI_1]) (H _ ?_))⟩
            exact ⟨e11, rfl, e13, e14, rfl, h11, h12, qm_ar_set h13 rfl, h9, h10⟩
          · cases h
      split at h
      · rename_i ho
        subst ho
        split at h
        · cases h
        · rename_i v hv
          have e := Option.some.inj h
          cases e
          have hh := qm_lt hv
          refine br_t (by decide) (br_f (by decide) (br_t rfl (qm_w_take (by omega) e12 (h11 _ _ hv) ?_)))
          dsimp only
          dsimp only at H
          refine br_c (fun g => ?_) (fun g => ?_)
          · rw [if_pos g] at H
            exact H _ ⟨e11, rfl, e13, e14, e15, h11, h12, h13, h9, h10⟩
          · rw [if_neg g] at H
            rw [nI_1]
            exact H _ ⟨e11, rfl, e13, e14, e15, h11, h12, h13, h9, h10⟩
      split at h
      · rename_i ho
        subst ho
        refine br_t (by decide) (br_f (by decide) (br_f (by decide) (br_t rfl ?_)))
        refine pk_le 4 tl.length (fun z => absurd z (by omega)) (fun _ => ⟨pk_in tl.length 4 (by omega) e14, nm_r (e' := upd a12 tl.length (nI x)) (by rw [e14, nI_clamp (by omega)]) ?_⟩) rfl e14
        refine nm_r (e' := nI (tl.length + 1)) (by rw [e14, nI_1]) ?_
        split at h
        · rename_i hx0
          have e := Option.some.inj h
          cases e
          refine br_f (nI_nle hx0 (by omega)) ?_
          dsimp only
          rw [nI_1]
          exact H _ ⟨e11, e12, e13, rfl, e15, h11, qm_st_push h12 rfl, h13, h9, h10⟩
        · rename_i hx0
          have hx : x = 0 := by omega
          subst hx
          split at h
          · cases h
          · rename_i e' hf
            have e := Option.some.inj h
            cases e
            refine br_t (by decide) (nm_r (e' := nI tl.length) (nI_pred _) (nm_r (e' := nI (pc + 1)) (nI_1 pc) ⟨200, qm_w_find hcd e11 h9 200 (pc + 1) e' 0 hf (by omega) ?_⟩))
            refine H _ ⟨e11, e12, e13, rfl, e15, h11, ?_, h13, h9, h10⟩
            exact qm_st_pop (qm_st_push (x := 0) h12 rfl)
      split at h
      · rename_i ho
        subst ho
        refine br_t (by decide) (br_f (by decide) (br_f (by decide) (br_f (by decide) ?_)))
        split at h
        · cases h
        · rename_i n tl
          split at h
          · rename_i hn
            have e14' : f14 = nI (tl.length + 1) := e14
            have hl : tl.length + 1 < 3 := hg.2.2.1
            have hna : a12 tl.length = nI n := qm_st_top h12
            refine br_f (by rw [e14']; exact nI_nle (Nat.succ_pos _) (by omega)) ?_
            have ep : f14 - 1 = nI tl.length := by rw [e14']; exact nI_pred _
            rw [ep]
            refine ⟨pk_in tl.length 4 (by omega), pk_in tl.length 4 (by omega), nm_r (e' := upd a12 tl.length (nI (n - 1))) (by rw [nI_clamp (by omega), hna]; congr 1; exact pk_sub (b := 1) (by omega)) ⟨pk_in tl.length 4 (by omega), ?_⟩⟩
            rw [nI_clamp (by omega), pk_us]
            split at h
            · rename_i hn1
              have e := Option.some.inj h
              cases e
              refine br_f (nI_nle (by omega) (by omega)) ?_
              dsimp only
              rw [nI_1]
              exact H _ ⟨e11, e12, e13, e14, e15, h11, qm_st_push (qm_st_pop h12) rfl, h13, h9, h10⟩
            · rename_i hn1
              have e := Option.some.inj h
              cases e
              have hn0 : n - 1 = 0 := by omega
              rw [hn0]
              refine br_t (by decide) ?_
              dsimp only
              rw [nI_1]
              exact H _ ⟨e11, e12, e13, rfl, e15, h11, qm_st_pop (qm_st_push (x := 0) (qm_st_pop h12) rfl), h13, h9, h10⟩
          · cases h
      · cases h
    · cases h
theorem qm_w_exec {post : Int32 → St1 → Prop} {cd : List (Nat × Nat)} {st' : Nat} {vs' : List Int32} (hcd : cd.length ≤ 200) (H : ∀ u, qm_V vs' u → post (nI st') u) : ∀ (k : Nat) (z : qm_Z) (j : Nat) (f1 f2 f3 f4 f5 f6 f7 f8 f9 f10 f11 f12 f13 f14 f15 : Int32) (a1 a2 a3 a4 a5 a6 a7 a8 a9 a10 a11 a12 a13 : Nat → Int32), qm_exec cd k z = some (st', vs') → j + k ≤ 1000 →
    qm_X cd z (f1, f2, f3, f4, f5, f6, f7, f8, f9, f10, f11, f12, f13, f14, f15, a1, a2, a3, a4, a5, a6, a7, a8, a9, a10, a11, a12, a13) → wX_run_34 post k (nI z.1) (nI j) f1 f2 f3 f4 f5 f6 f7 f8 f9 f10 f11 f12 f13 f14 f15 a1 a2 a3 a4 a5 a6 a7 a8 a9 a10 a11 a12 a13 := by
  intro k
  induction k with
  | zero =>
    intro z j f1 f2 f3 f4 f5 f6 f7 f8 f9 f10 f11 f12 f13 f14 f15 a1 a2 a3 a4 a5 a6 a7 a8 a9 a10 a11 a12 a13 h
    simp [qm_exec] at h
  | succ k ih =>
    intro z j f1 f2 f3 f4 f5 f6 f7 f8 f9 f10 f11 f12 f13 f14 f15 a1 a2 a3 a4 a5 a6 a7 a8 a9 a10 a11 a12 a13 h hj hX
    simp only [qm_exec] at h
    have e11 : f11 = nI cd.length := by
      obtain ⟨pc, h0, rl, tl, st, vs⟩ := z
      exact hX.1
    split at h
    · rename_i hz
      refine pk_le 150000 j (fun z => absurd z (by omega)) (fun _ => ?_)
      split at h
      · rename_i hl
        have e := Option.some.inj h
        obtain ⟨pc, h0, rl, tl, st, vs⟩ := z
        cases e
        obtain ⟨e11, e12, e13, e14, e15, h11, h12, h13, h9, h10⟩ := hX
        refine pk_le cd.length pc (fun _ => ?_) (fun z => absurd hl (by dsimp only; omega)) e11 rfl (by omega) (by dsimp only at hz; omega)
        rw [e15]
        exact H _ h13
      · rename_i hl
        refine pk_le cd.length z.1 (fun q => absurd q hl) (fun _ => ?_) e11
        split at h
        · cases h
        · rename_i z' hz'
          refine qm_w_perf hcd hz' hX (fun u hu => ?_)
          obtain ⟨f1, f2, f3, f4, f5, f6, f7, f8, f9, f10, f11, f12, f13, f14, f15, a1, a2, a3, a4, a5, a6, a7, a8, a9, a10, a11, a12, a13⟩ := u
          exact nm_r (nI_1 j) (ih z' (j + 1) _ _ _ _ _ _ _ _ _ _ _ _ _ _ _ _ _ _ _ _ _ _ _ _ _ _ _ _ h (by omega) hu)
    · cases h
/-! ===== what the programs of the law do ===== -/
section
variable {x y z : Int32}
theorem qm_x1 (m : Nat) (hm : m < 10) : qm_exec [(2, 2), (1, m), (2, 1), (5, 1), (3, 0), (10, 0)] 60 (0, 0, [], [], 0, [z, x, y]) = some (1, [x + y * nI m, x, y]) := by
  have h : m < 1000 := by omega
  simp [qm_exec, qm_step, qm_cal, h]
theorem qm_x2 (m : Nat) (hm : m < 10) : qm_exec [(2, 2), (1, m), (5, 0), (2, 1), (3, 2), (10, 0)] 60 (0, 0, [], [], 0, [z, x, y]) = some (1, [y * nI m + x, x, y]) := by
  have h : m < 1000 := by omega
  simp [qm_exec, qm_step, qm_cal, h]
theorem qm_x3 : qm_exec [(2, 1), (2, 2), (2, 1), (2, 2), (4, 0), (3, 3), (5, 2), (10, 0)] 60 (0, 0, [], [], 0, [z, x, y]) = some (1, [(x - y) * (x + y), x, y]) := by
  simp [qm_exec, qm_step, qm_cal]
theorem qm_x4 : qm_exec [(2, 1), (2, 1), (2, 2), (2, 2), (5, 0), (5, 3), (4, 2), (10, 0)] 60 (0, 0, [], [], 0, [z, x, y]) = some (1, [x * x - y * y, x, y]) := by
  simp [qm_exec, qm_step, qm_cal]
theorem qm_x6 : qm_exec [(2, 1), (2, 2), (6, 0), (11, 6), (2, 1), (10, 0), (2, 1), (2, 2), (1, 1), (6, 1), (4, 0), (11, 14), (2, 2), (10, 0)] 60 (0, 0, [], [], 0, [z, x, y]) = some (1, [if y ≤ x then y else x, x, y]) := by
  have e1 : nI 1 - 1 = 0 := by decide
  have e0 : nI 1 - 0 = 1 := by decide
  by_cases h : y ≤ x
  · simp [qm_exec, qm_step, qm_cal, h, e0, e1]
  · simp [qm_exec, qm_step, qm_cal, h, e0, e1]
end
end
section
/-! ===== the loop of the law's fifth program ===== -/
def qm_k5 (n : Nat) : List (Nat × Nat) := [(12, n), (2, 0), (2, 1), (3, 0), (10, 0), (13, 0)]
theorem qm_ex1 {cd : List (Nat × Nat)} {k : Nat} {z z' : qm_Z} (h1 : z.1 < cd.length) (h2 : cd.length ≤ 200) (hs : qm_step cd z = some z') : qm_exec cd (k + 1) z = qm_exec cd k z' := by
  simp only [qm_exec]
  rw [if_pos (by omega), if_neg (by omega), hs]
theorem qm_ex0 {cd : List (Nat × Nat)} {k : Nat} {z : qm_Z} (h1 : z.1 = cd.length) (h2 : cd.length ≤ 200) : qm_exec cd (k + 1) z = some (z.2.2.2.2.1, z.2.2.2.2.2) := by
  simp only [qm_exec]
  rw [if_pos (by omega), if_pos (by omega)]
theorem qm_e5 {n k pc : Nat} {w : Nat × List Int32 × List Nat × Nat × List Int32} {z' : qm_Z} (h1 : pc < 6) (hs : qm_step (qm_k5 n) (pc, w) = some z') : qm_exec (qm_k5 n) (k + 1) (pc, w) = qm_exec (qm_k5 n) k z' :=
  qm_ex1 h1 (show (6 : Nat) ≤ 200 by decide) hs
section
variable {x y a p q v : Int32} {n h st r : Nat} {rl vs : List Int32} {tl : List Nat}
theorem qm_l1 (hl : rl.length < 120) (hst : st < 100) (htl : tl.length < 3) : qm_step (qm_k5 n) (1, h, rl, tl, st, [a, x, y]) = some (2, h, rl ++ [a], tl, st, [a, x, y]) := by
  simp [qm_k5, qm_step, hl, hst, htl]
theorem qm_l2 (hl : rl.length < 120) (hst : st < 100) (htl : tl.length < 3) : qm_step (qm_k5 n) (2, h, rl, tl, st, [a, x, y]) = some (3, h, rl ++ [x], tl, st, [a, x, y]) := by
  simp [qm_k5, qm_step, hl, hst, htl]
theorem qm_l3 (hl : rl.length < 120) (hst : st < 100) (htl : tl.length < 3) (hp : rl[h]? = some p) (hq : rl[h + 1]? = some q) : qm_step (qm_k5 n) (3, h, rl, tl, st, vs) = some (4, h + 2, rl ++ [p + q], tl, st, vs) := by
  simp [qm_k5, qm_step, qm_cal, hl, hst, htl, hp, hq]
theorem qm_l4 (hl : rl.length < 120) (hst : st < 100) (htl : tl.length < 3) (hv : rl[h]? = some v) : qm_step (qm_k5 n) (4, h, rl, tl, st, [a, x, y]) = some (5, h + 1, rl, tl, st + 1, [v, x, y]) := by
  simp [qm_k5, qm_step, hl, hst, htl, hv]
theorem qm_l5 (hl : rl.length < 120) (hst : st < 100) (hr : r < 900) : qm_step (qm_k5 n) (5, h, rl, [r + 2], st, vs) = some (1, h, rl, [r + 1], st, vs) := by
  have hr' : r + 2 < 1000 := by omega
  simp only [qm_k5, qm_step]
  refine (if_pos ⟨hl, hst, show (1 : Nat) < 3 by decide, by decide⟩).trans ?_
  show (if 0 < r + 2 ∧ r + 2 < 1000 then (if 1 < r + 2 then some (0 + 1, h, rl, [r + 2 - 1], st, vs) else some (5 + 1, h, rl, [], st, vs)) else none) = some (1, h, rl, [r + 1], st, vs)
  rw [if_pos ⟨by omega, hr'⟩, if_pos (by omega)]
  rfl
theorem qm_l6 (hl : rl.length < 120) (hst : st < 100) : qm_step (qm_k5 n) (5, h, rl, [1], st, vs) = some (6, h, rl, [], st, vs) := by
  simp [qm_k5, qm_step, hl, hst]
theorem qm_lp : ∀ (r k : Nat) (rl : List Int32) (st : Nat) (a : Int32), rl.length + 3 * r < 80 → st + r < 90 → qm_exec (qm_k5 n) (k + 1 + 5 * (r + 1)) (1, rl.length, rl, [r + 1], st, [a, x, y]) = some (st + (r + 1), [a + nI (r + 1) * x, x, y]) := by
  intro r
  induction r with
  | zero =>
    intro k rl st a hl hst
    have hk : (qm_k5 n).length = 6 := rfl
    have l1 : (rl ++ [a]).length = rl.length + 1 := by simp
    have l2 : (rl ++ [a] ++ [x]).length = rl.length + 2 := by simp
    have l3 : (rl ++ [a] ++ [x] ++ [a + x]).length = rl.length + 3 := by simp
    have g1 : (rl ++ [a] ++ [x])[rl.length]? = some a := by simp
    have g2 : (rl ++ [a] ++ [x])[rl.length + 1]? = some x := by rw [← l1]; simp
    have g3 : (rl ++ [a] ++ [x] ++ [a + x])[rl.length + 2]? = some (a + x) := by rw [← l2]; simp
    show qm_exec (qm_k5 n) (k + 1 + 1 + 1 + 1 + 1 + 1) (1, rl.length, rl, [1], st, [a, x, y]) = _
    refine (qm_e5 (by decide) (qm_l1 (by omega) (by omega) (by exact (show (1 : Nat) < 3 by decide)))).trans ?_
    refine (qm_e5 (by decide) (qm_l2 (by omega) (by omega) (by exact (show (1 : Nat) < 3 by decide)))).trans ?_
    refine (qm_e5 (by decide) (qm_l3 (by omega) (by omega) (by exact (show (1 : Nat) < 3 by decide)) g1 g2)).trans ?_
    refine (qm_e5 (by decide) (qm_l4 (by omega) (by omega) (by exact (show (1 : Nat) < 3 by decide)) g3)).trans ?_
    refine (qm_e5 (by decide) (qm_l6 (by omega) (by omega))).trans ?_
    refine (qm_ex0 (cd := qm_k5 n) rfl (show (6 : Nat) ≤ 200 by decide)).trans ?_
    have e : a + x = a + nI 1 * x := by
      rw [show nI 1 = 1 from rfl, Int32.one_mul]
    dsimp only
    rw [e]
  | succ r ih =>
    intro k rl st a hl hst
    have l1 : (rl ++ [a]).length = rl.length + 1 := by simp
    have l2 : (rl ++ [a] ++ [x]).length = rl.length + 2 := by simp
    have l3 : (rl ++ [a] ++ [x] ++ [a + x]).length = rl.length + 2 + 1 := by simp
    have g1 : (rl ++ [a] ++ [x])[rl.length]? = some a := by simp
    have g2 : (rl ++ [a] ++ [x])[rl.length + 1]? = some x := by rw [← l1]; simp
    have g3 : (rl ++ [a] ++ [x] ++ [a + x])[rl.length + 2]? = some (a + x) := by rw [← l2]; simp
    show qm_exec (qm_k5 n) (k + 1 + 5 * (r + 1) + 1 + 1 + 1 + 1 + 1) (1, rl.length, rl, [r + 2], st, [a, x, y]) = _
    refine (qm_e5 (by decide) (qm_l1 (by omega) (by omega) (by exact (show (1 : Nat) < 3 by decide)))).trans ?_
    refine (qm_e5 (by decide) (qm_l2 (by omega) (by omega) (by exact (show (1 : Nat) < 3 by decide)))).trans ?_
    refine (qm_e5 (by decide) (qm_l3 (by omega) (by omega) (by exact (show (1 : Nat) < 3 by decide)) g1 g2)).trans ?_
    refine (qm_e5 (by decide) (qm_l4 (by omega) (by omega) (by exact (show (1 : Nat) < 3 by decide)) g3)).trans ?_
    refine (qm_e5 (by decide) (qm_l5 (by omega) (by omega) (by omega))).trans ?_
    rw [← l3]
    rw [ih k _ (st + 1) (a + x) (by rw [l3]; omega) (by omega)]
    have e : a + x + nI (r + 1) * x = a + nI (r + 1 + 1) * x := by
      rw [← nI_1 (r + 1)]
      grind
    have e' : st + 1 + (r + 1) = st + (r + 1 + 1) := by omega
    rw [e, e']
theorem qm_x5 {z : Int32} (n : Nat) (hn : n < 10) : qm_exec [(12, n), (2, 0), (2, 1), (3, 0), (10, 0), (13, 0)] 60 (0, 0, [], [], 0, [z, x, y]) = some (n, [z + nI n * x, x, y]) := by
  cases n with
  | zero =>
    have e : z = z + nI 0 * x := by
      rw [nI_0, Int32.zero_mul, Int32.add_zero]
    have t : qm_exec [(12, 0), (2, 0), (2, 1), (3, 0), (10, 0), (13, 0)] 60 (0, 0, [], [], 0, [z, x, y]) = some (0, [z, x, y]) := by rfl
    rw [← e]
    exact t
  | succ r =>
    have hs : qm_step (qm_k5 (r + 1)) (0, 0, [], [], 0, [z, x, y]) = some (1, 0, [], [r + 1], 0, [z, x, y]) := by
      have hr : r + 1 < 1000 := by omega
      simp [qm_k5, qm_step, hr]
    have t := qm_lp (n := r + 1) (x := x) (y := y) r (53 - 5 * r) [] 0 z (by simp; omega) (by omega)
    have e60 : 53 - 5 * r + 1 + 5 * (r + 1) = 59 := by omega
    rw [e60, Nat.zero_add] at t
    exact (qm_e5 (n := r + 1) (k := 59) (by decide) hs).trans t
theorem qm_a4 : x * x - y * y = (x - y) * (x + y) := by grind
end
end
section
/-! ===== the law's own helpers ===== -/
def qm_sg (c : Nat) : Bool := [35, 38, 40, 41, 42, 43, 45, 59, 60, 61, 63, 123, 125].contains c
def qm_ok (c : Nat) : Bool := decide (48 ≤ c ∧ c ≤ 57) || decide (97 ≤ c ∧ c ≤ 104) || qm_sg c
def qm_fed (sr : List Nat) (c : Nat) : List Nat := if qm_ok c = true then sr ++ [c] else sr
def qm_fed6 (sr : List Nat) (p q r u v w : Nat) : List Nat := qm_fed (qm_fed (qm_fed (qm_fed (qm_fed (qm_fed sr p) q) r) u) v) w
theorem qm_fed_le (sr : List Nat) (c : Nat) : (qm_fed sr c).length ≤ sr.length + 1 := by
  unfold qm_fed
  split
  · rw [List.length_append, List.length_singleton]
    omega
  · omega
theorem qm_sg_t {c : Nat} (h : c ∈ [35, 38, 40, 41, 42, 43, 45, 59, 60, 61, 63, 123, 125]) : qm_sg c = true := by
  unfold qm_sg
  rw [List.contains_iff_mem]
  exact h
theorem qm_w_sign {post : Int32 → Prop} {c : Nat} (hc : c < 128) (H : post (qm_b (qm_sg c))) : wpX_isSign post () (nI c) := by
  refine pk_eq c 35 (fun z => by subst z; exact H) (fun z35 => ?_)
  refine pk_eq c 38 (fun z => by subst z; exact H) (fun z38 => ?_)
  refine pk_eq c 40 (fun z => by subst z; exact H) (fun z40 => ?_)
  refine pk_eq c 41 (fun z => by subst z; exact H) (fun z41 => ?_)
  refine pk_eq c 42 (fun z => by subst z; exact H) (fun z42 => ?_)
  refine pk_eq c 43 (fun z => by subst z; exact H) (fun z43 => ?_)
  refine pk_eq c 45 (fun z => by subst z; exact H) (fun z45 => ?_)
  refine pk_eq c 59 (fun z => by subst z; exact H) (fun z59 => ?_)
  refine pk_eq c 60 (fun z => by subst z; exact H) (fun z60 => ?_)
  refine pk_eq c 61 (fun z => by subst z; exact H) (fun z61 => ?_)
  refine pk_eq c 63 (fun z => by subst z; exact H) (fun z63 => ?_)
  refine pk_eq c 123 (fun z => by subst z; exact H) (fun z123 => ?_)
  refine pk_eq c 125 (fun z => by subst z; exact H) (fun z125 => ?_)
  have e : qm_sg c = false := by
    unfold qm_sg
    simp [z35, z38, z40, z41, z42, z43, z45, z59, z60, z61, z63, z123, z125]
  rw [e] at H
  exact H
section
variable {f1 f2 f3 f4 f5 f6 f7 f8 f9 f10 f11 f12 f13 f14 f15 : Int32} {a1 a2 a3 a4 a5 a6 a7 a8 a9 a10 a11 a12 a13 : Nat → Int32} {sr : List Nat} {vs : List Int32}
theorem qm_w_feed23 {post : Int32 → St1 → Prop} {c : Nat} {g : Bool} (hc : c < 128) (hl : sr.length < 80) (hI : qm_I sr vs (f1, f2, f3, f4, f5, f6, f7, f8, f9, f10, f11, f12, f13, f14, f15, a1, a2, a3, a4, a5, a6, a7, a8, a9, a10, a11, a12, a13)) (H : ∀ r u, qm_I (if g = true then sr ++ [c] else sr) vs u → post r u) : wX_feed_23 post (nI c) (qm_b g) f1 f2 f3 f4 f5 f6 f7 f8 f9 f10 f11 f12 f13 f14 f15 a1 a2 a3 a4 a5 a6 a7 a8 a9 a10 a11 a12 a13 := by
  obtain ⟨e1, h13, h1⟩ := hI
  cases g with
  | false => exact br_t rfl (H _ _ ⟨e1, h13, h1⟩)
  | true =>
    refine br_f (by decide) (pk_lt sr.length 80 (fun _ => ⟨pk_in sr.length 80 hl e1, nm_r (e' := upd a1 sr.length (nI c)) ?_ (nm_r (e' := nI (sr.length + 1)) (by rw [e1, nI_1]) (H _ _ ⟨qm_len', h13, qm_ar_push h1 rfl⟩))⟩) (fun z => absurd z (by omega)) e1)
    rw [e1, nI_clamp (by omega)]
    unfold vp_nar
    rw [(pk_charN (show c < 65536 by omega)).1]
theorem qm_w_feed {post : Int32 → St1 → Prop} {c : Nat} (hc : c < 128) (hl : sr.length < 80) (hI : qm_I sr vs (f1, f2, f3, f4, f5, f6, f7, f8, f9, f10, f11, f12, f13, f14, f15, a1, a2, a3, a4, a5, a6, a7, a8, a9, a10, a11, a12, a13)) (H : ∀ r u, qm_I (qm_fed sr c) vs u → post r u) : wpX_feed post (f1, f2, f3, f4, f5, f6, f7, f8, f9, f10, f11, f12, f13, f14, f15, a1, a2, a3, a4, a5, a6, a7, a8, a9, a10, a11, a12, a13) (nI c) := by
  unfold wpX_feed
  dsimp only
  unfold qm_fed at H
  by_cases hd : 48 ≤ c ∧ c ≤ 57
  · refine qm_w_dig1 hd (br_f (by decide) (br_f (by decide) (qm_w_feed23 (g := true) hc hl hI ?_)))
    rw [show qm_ok c = true by simp [qm_ok, hd]] at H
    exact H
  · refine qm_w_dig0 hc hd (br_t rfl ?_)
    by_cases hm : 97 ≤ c ∧ c ≤ 104
    · refine qm_w_let1 hm (br_f (by decide) (qm_w_feed23 (g := true) hc hl hI ?_))
      rw [show qm_ok c = true by simp [qm_ok, hm]] at H
      exact H
    · refine qm_w_let0 hc hm (br_t rfl (qm_w_sign hc (qm_w_feed23 hc hl hI ?_)))
      rw [show qm_ok c = qm_sg c by
        unfold qm_ok
        rw [decide_eq_false hd, decide_eq_false hm]
        rfl] at H
      exact H
theorem qm_w_t {post : St1 → Prop} {sr' : List Nat} (p q r u v w : Nat) (hp : p < 128) (hq : q < 128) (hr : r < 128) (hu : u < 128) (hv : v < 128) (hw : w < 128) (hl : sr.length < 70) (hI : qm_I sr vs (f1, f2, f3, f4, f5, f6, f7, f8, f9, f10, f11, f12, f13, f14, f15, a1, a2, a3, a4, a5, a6, a7, a8, a9, a10, a11, a12, a13)) (hs : qm_fed6 sr p q r u v w = sr')
    (H : ∀ u, qm_I sr' vs u → post u) : wpL_t post (f1, f2, f3, f4, f5, f6, f7, f8, f9, f10, f11, f12, f13, f14, f15, a1, a2, a3, a4, a5, a6, a7, a8, a9, a10, a11, a12, a13) (nI p) (nI q) (nI r) (nI u) (nI v) (nI w) := by
  unfold wpL_t
  dsimp only
  have l1 := qm_fed_le sr p
  have l2 := qm_fed_le (qm_fed sr p) q
  have l3 := qm_fed_le (qm_fed (qm_fed sr p) q) r
  have l4 := qm_fed_le (qm_fed (qm_fed (qm_fed sr p) q) r) u
  have l5 := qm_fed_le (qm_fed (qm_fed (qm_fed (qm_fed sr p) q) r) u) v
  refine qm_w_feed hp (by omega) hI (fun _ s hI => ?_)
  obtain ⟨f1, f2, f3, f4, f5, f6, f7, f8, f9, f10, f11, f12, f13, f14, f15, a1, a2, a3, a4, a5, a6, a7, a8, a9, a10, a11, a12, a13⟩ := s
  dsimp only
  refine qm_w_feed hq (by omega) hI (fun _ s hI => ?_)
  obtain ⟨f1, f2, f3, f4, f5, f6, f7, f8, f9, f10, f11, f12, f13, f14, f15, a1, a2, a3, a4, a5, a6, a7, a8, a9, a10, a11, a12, a13⟩ := s
  dsimp only
  refine qm_w_feed hr (by omega) hI (fun _ s hI => ?_)
  obtain ⟨f1, f2, f3, f4, f5, f6, f7, f8, f9, f10, f11, f12, f13, f14, f15, a1, a2, a3, a4, a5, a6, a7, a8, a9, a10, a11, a12, a13⟩ := s
  dsimp only
  refine qm_w_feed hu (by omega) hI (fun _ s hI => ?_)
  obtain ⟨f1, f2, f3, f4, f5, f6, f7, f8, f9, f10, f11, f12, f13, f14, f15, a1, a2, a3, a4, a5, a6, a7, a8, a9, a10, a11, a12, a13⟩ := s
  dsimp only
  refine qm_w_feed hv (by omega) hI (fun _ s hI => ?_)
  obtain ⟨f1, f2, f3, f4, f5, f6, f7, f8, f9, f10, f11, f12, f13, f14, f15, a1, a2, a3, a4, a5, a6, a7, a8, a9, a10, a11, a12, a13⟩ := s
  dsimp only
  refine qm_w_feed hw (by omega) hI (fun _ s hI => ?_)
  obtain ⟨f1, f2, f3, f4, f5, f6, f7, f8, f9, f10, f11, f12, f13, f14, f15, a1, a2, a3, a4, a5, a6, a7, a8, a9, a10, a11, a12, a13⟩ := s
  subst hs
  exact H _ hI
theorem qm_w_set {post : Int32 → St1 → Prop} {k : Nat} {v : Int32} (hk : k < 8) (H : post 0 (f1, f2, f3, f4, f5, f6, f7, f8, f9, f10, f11, f12, f13, f14, f15, a1, a2, a3, a4, a5, a6, a7, a8, a9, a10, a11, a12, upd a13 k v)) : wpX_set post (f1, f2, f3, f4, f5, f6, f7, f8, f9, f10, f11, f12, f13, f14, f15, a1, a2, a3, a4, a5, a6, a7, a8, a9, a10, a11, a12, a13) (nI k) v :=
  br_f (nI_pos (by omega)) (pk_le k 7 (fun _ => ⟨pk_in k 8 hk, nm_r (by rw [nI_clamp (by omega)]) H⟩) (fun z => absurd z (by omega)))
theorem qm_v3 {a : Nat → Int32} {x y z : Int32} (h0 : a 0 = z) (h1 : a 1 = x) (h2 : a 2 = y) : qm_ar (fun x => x) a [z, x, y]
  | 0, _, hv => h0.trans (Option.some.inj hv)
  | 1, _, hv => h1.trans (Option.some.inj hv)
  | 2, _, hv => h2.trans (Option.some.inj hv)
  | _ + 3, _, hv => by simp at hv
theorem qm_w_fresh {post : St1 → Prop} {x y z : Int32} (H : ∀ u, qm_I [] [z, x, y] u → post u) : wpL_fresh post (f1, f2, f3, f4, f5, f6, f7, f8, f9, f10, f11, f12, f13, f14, f15, a1, a2, a3, a4, a5, a6, a7, a8, a9, a10, a11, a12, a13) x y z := by
  unfold wpL_fresh
  dsimp only
  unfold wpX_clear
  dsimp only
  refine qm_w_set (k := 0) (by decide) ?_
  dsimp only
  refine qm_w_set (k := 1) (by decide) ?_
  dsimp only
  refine qm_w_set (k := 2) (by decide) ?_
  dsimp only
  refine H _ ⟨rfl, qm_v3 ?_ ?_ ?_, qm_ar_nil⟩
  · rw [pk_un (by decide), pk_un (by decide), pk_us]
  · rw [pk_un (by decide), pk_us]
  · rw [pk_us]
theorem qm_w_get {post : Int32 → Prop} {v : Int32} (k : Nat) (hk : k < 8) (hV : qm_V vs (f1, f2, f3, f4, f5, f6, f7, f8, f9, f10, f11, f12, f13, f14, f15, a1, a2, a3, a4, a5, a6, a7, a8, a9, a10, a11, a12, a13)) (hv : vs[k]? = some v) (H : post v) : wpX_get post (f1, f2, f3, f4, f5, f6, f7, f8, f9, f10, f11, f12, f13, f14, f15, a1, a2, a3, a4, a5, a6, a7, a8, a9, a10, a11, a12, a13) (nI k) := by
  refine br_f (nI_pos (by omega)) (pk_le k 7 (fun _ => ⟨pk_in k 8 hk, ?_⟩) (fun z => absurd z (by omega)))
  rw [nI_clamp (by omega), hV k v hv]
  exact H
theorem qm_w_runs {post : Int32 → St1 → Prop} {vs' : List Int32} {cd : List (Nat × Nat)} {st : Nat} {p : Int32} (hs : qm_S sr) (hc : qm_cmp sr = some cd) (hl : cd.length ≤ 200) (hx : qm_exec cd 60 (0, 0, [], [], 0, vs) = some (st, vs')) (hp : p = nI st)
    (hI : qm_I sr vs (f1, f2, f3, f4, f5, f6, f7, f8, f9, f10, f11, f12, f13, f14, f15, a1, a2, a3, a4, a5, a6, a7, a8, a9, a10, a11, a12, a13)) (H : ∀ u, qm_V vs' u → post 1 u) : wpL_runs post (f1, f2, f3, f4, f5, f6, f7, f8, f9, f10, f11, f12, f13, f14, f15, a1, a2, a3, a4, a5, a6, a7, a8, a9, a10, a11, a12, a13) p := by
  unfold wpL_runs
  dsimp only
  refine qm_w_compile hs hc hI (fun u hG => ?_)
  obtain ⟨f1, f2, f3, f4, f5, f6, f7, f8, f9, f10, f11, f12, f13, f14, f15, a1, a2, a3, a4, a5, a6, a7, a8, a9, a10, a11, a12, a13⟩ := u
  obtain ⟨e10, e11, h13, h9, h10⟩ := hG
  dsimp only
  refine br_t rfl ?_
  unfold wpX_run
  dsimp only
  refine br_f (by rw [e10]; decide) ⟨60, ?_⟩
  refine qm_w_exec (cd := cd) (st' := st) (vs' := vs') hl (fun u hu => ?_) 60 (0, 0, [], [], 0, vs) 0 _ _ _ _ _ _ _ _ _ _ _ _ _ _ _ _ _ _ _ _ _ _ _ _ _ _ _ _ hx (by omega) ⟨e11, rfl, rfl, rfl, rfl, qm_ar_nil, qm_ar_nil, h13, h9, h10⟩
  obtain ⟨f1, f2, f3, f4, f5, f6, f7, f8, f9, f10, f11, f12, f13, f14, f15, a1, a2, a3, a4, a5, a6, a7, a8, a9, a10, a11, a12, a13⟩ := u
  exact br_t hp.symm (H _ hu)
end
/-! ===== what is fed ===== -/
theorem qm_d1 : ∀ m, m < 10 → qm_fed6 (qm_fed6 [] 97 61 98 43 99 42) (48 + m) 59 32 32 32 32 = [97, 61, 98, 43, 99, 42, 48 + m, 59] := by decide +kernel
theorem qm_d2 : ∀ m, m < 10 → qm_fed6 (qm_fed6 [] 97 61 99 42 (48 + m) 43) 98 59 32 32 32 32 = [97, 61, 99, 42, 48 + m, 43, 98, 59] := by decide +kernel
theorem qm_d5 : ∀ m, m < 10 → qm_fed6 (qm_fed6 [] 35 (48 + m) 123 97 61 97) 43 98 59 125 32 32 = [35, 48 + m, 123, 97, 61, 97, 43, 98, 59, 125] := by decide +kernel
theorem qm_g2 : ∀ m, m < 10 → (qm_fed6 [] 97 61 99 42 (48 + m) 43).length < 70 := by decide +kernel
theorem qm_g5 : ∀ m, m < 10 → (qm_fed6 [] 35 (48 + m) 123 97 61 97).length < 70 := by decide +kernel
theorem qm_dig {s : Int32} : ∃ m : Nat, m < 10 ∧ (s &&& 255) - (s &&& 255) / 10 * 10 = nI m := by
  obtain ⟨j, hj, e⟩ := pk_andE s (m := 255) 8 (by decide)
  refine ⟨j % 10, Nat.mod_lt _ (by decide), ?_⟩
  rw [e]
  exact pk_rem (a := j) (d := 10) (by omega) (by decide) (by decide)
theorem qm_chr {m : Nat} (h : m < 10) : ((48 + nI m).toUInt32 % 65536).toInt32 = nI (48 + m) := by
  rw [pk_char, show (48 : Int32) + nI m = nI (48 + m) from nI_add 48 m, pk_tn (by omega), Nat.mod_eq_of_lt (by omega)]
end
section
/-! ===== the law ===== -/
theorem qm_law {L : Nat} {xs : Nat → Int32} {kc ks : Nat} (hL : L ≤ 260) : ∀ (j k : Nat) (f1 f2 f3 f4 f5 f6 f7 f8 f9 f10 f11 f12 f13 f14 f15 : Int32) (a1 a2 a3 a4 a5 a6 a7 a8 a9 a10 a11 a12 a13 : Nat → Int32), L < k + 4 * j + 4 → k ≤ 300 → wL_law_10 (fun r => r = 1) L xs kc ks (j + 1) (nI k) f1 f2 f3 f4 f5 f6 f7 f8 f9 f10 f11 f12 f13 f14 f15 a1 a2 a3 a4 a5 a6 a7 a8 a9 a10 a11 a12 a13 := by
  intro j
  induction j with
  | zero =>
    intro k f1 f2 f3 f4 f5 f6 f7 f8 f9 f10 f11 f12 f13 f14 f15 a1 a2 a3 a4 a5 a6 a7 a8 a9 a10 a11 a12 a13 h hk
    exact pk_le L (k + 3) (fun _ => rfl) (fun z => absurd z (by omega)) rfl (nI_add k 3)
  | succ j ih =>
    intro k f1 f2 f3 f4 f5 f6 f7 f8 f9 f10 f11 f12 f13 f14 f15 a1 a2 a3 a4 a5 a6 a7 a8 a9 a10 a11 a12 a13 h hk
    refine pk_le L (k + 3) (fun _ => rfl) (fun hlt => ?_) rfl (nI_add k 3)
    refine ⟨pk_in k L (by omega), fun x _ => ⟨pk_in (k + 1) L (by omega) (nI_1 k), fun y _ => ⟨pk_in (k + 2) L (by omega) (nI_add k 2), fun z _ => ⟨pk_in (k + 3) L (by omega) (nI_add k 3), by decide, fun x6 e6 => ⟨pk_in (k + 3) L (by omega) (nI_add k 3), by decide, fun x7 e7 x8 e8 x9 e9 => ?_⟩⟩⟩⟩⟩
    obtain ⟨m, hm, em⟩ : ∃ m : Nat, m < 10 ∧ x6 = nI m := by
      rw [e6]
      exact qm_dig
    obtain ⟨n, hn, en⟩ : ∃ n : Nat, n < 10 ∧ x7 = nI n := by
      rw [e7]
      exact qm_dig
    clear e6 e7
    subst em en
    rw [qm_chr hm] at e8
    rw [qm_chr hn] at e9
    subst e8 e9
    refine qm_w_fresh (fun u hu' => ?_)
    clear f1 f2 f3 f4 f5 f6 f7 f8 f9 f10 f11 f12 f13 f14 f15 a1 a2 a3 a4 a5 a6 a7 a8 a9 a10 a11 a12 a13
    obtain ⟨f1, f2, f3, f4, f5, f6, f7, f8, f9, f10, f11, f12, f13, f14, f15, a1, a2, a3, a4, a5, a6, a7, a8, a9, a10, a11, a12, a13⟩ := u
    dsimp only
    have hu := hu'
    clear hu'
    refine qm_w_t 97 61 98 43 99 42 (by decide) (by decide) (by decide) (by decide) (by decide) (by decide) (by decide) hu rfl (fun u hu' => ?_)
    clear hu f1 f2 f3 f4 f5 f6 f7 f8 f9 f10 f11 f12 f13 f14 f15 a1 a2 a3 a4 a5 a6 a7 a8 a9 a10 a11 a12 a13
    obtain ⟨f1, f2, f3, f4, f5, f6, f7, f8, f9, f10, f11, f12, f13, f14, f15, a1, a2, a3, a4, a5, a6, a7, a8, a9, a10, a11, a12, a13⟩ := u
    dsimp only
    have hu := hu'
    clear hu'
    refine qm_w_t (48 + m) 59 32 32 32 32 (by omega) (by decide) (by decide) (by decide) (by decide) (by decide) (by decide) hu (qm_d1 m hm) (fun u hu' => ?_)
    clear hu f1 f2 f3 f4 f5 f6 f7 f8 f9 f10 f11 f12 f13 f14 f15 a1 a2 a3 a4 a5 a6 a7 a8 a9 a10 a11 a12 a13
    obtain ⟨f1, f2, f3, f4, f5, f6, f7, f8, f9, f10, f11, f12, f13, f14, f15, a1, a2, a3, a4, a5, a6, a7, a8, a9, a10, a11, a12, a13⟩ := u
    dsimp only
    have hu := hu'
    clear hu'
    refine qm_w_runs (qm_sr1 m hm) (qm_c1 m hm) (by exact (show (6 : Nat) ≤ 200 by decide)) (qm_x1 m hm) rfl hu (fun u hu' => ?_)
    clear hu f1 f2 f3 f4 f5 f6 f7 f8 f9 f10 f11 f12 f13 f14 f15 a1 a2 a3 a4 a5 a6 a7 a8 a9 a10 a11 a12 a13
    obtain ⟨f1, f2, f3, f4, f5, f6, f7, f8, f9, f10, f11, f12, f13, f14, f15, a1, a2, a3, a4, a5, a6, a7, a8, a9, a10, a11, a12, a13⟩ := u
    dsimp only
    have hu := hu'
    clear hu'
    refine br_f (by decide) ?_
    refine qm_w_get 0 (by decide) hu rfl (br_t rfl ?_)
    refine qm_w_fresh (fun u hu' => ?_)
    clear hu f1 f2 f3 f4 f5 f6 f7 f8 f9 f10 f11 f12 f13 f14 f15 a1 a2 a3 a4 a5 a6 a7 a8 a9 a10 a11 a12 a13
    obtain ⟨f1, f2, f3, f4, f5, f6, f7, f8, f9, f10, f11, f12, f13, f14, f15, a1, a2, a3, a4, a5, a6, a7, a8, a9, a10, a11, a12, a13⟩ := u
    dsimp only
    have hu := hu'
    clear hu'
    refine qm_w_t 97 61 99 42 (48 + m) 43 (by decide) (by decide) (by decide) (by decide) (by omega) (by decide) (by decide) hu rfl (fun u hu' => ?_)
    clear hu f1 f2 f3 f4 f5 f6 f7 f8 f9 f10 f11 f12 f13 f14 f15 a1 a2 a3 a4 a5 a6 a7 a8 a9 a10 a11 a12 a13
    obtain ⟨f1, f2, f3, f4, f5, f6, f7, f8, f9, f10, f11, f12, f13, f14, f15, a1, a2, a3, a4, a5, a6, a7, a8, a9, a10, a11, a12, a13⟩ := u
    dsimp only
    have hu := hu'
    clear hu'
    refine qm_w_t 98 59 32 32 32 32 (by decide) (by decide) (by decide) (by decide) (by decide) (by decide) (qm_g2 m hm) hu (qm_d2 m hm) (fun u hu' => ?_)
    clear hu f1 f2 f3 f4 f5 f6 f7 f8 f9 f10 f11 f12 f13 f14 f15 a1 a2 a3 a4 a5 a6 a7 a8 a9 a10 a11 a12 a13
    obtain ⟨f1, f2, f3, f4, f5, f6, f7, f8, f9, f10, f11, f12, f13, f14, f15, a1, a2, a3, a4, a5, a6, a7, a8, a9, a10, a11, a12, a13⟩ := u
    dsimp only
    have hu := hu'
    clear hu'
    refine qm_w_runs (qm_sr2 m hm) (qm_c2 m hm) (by exact (show (6 : Nat) ≤ 200 by decide)) (qm_x2 m hm) rfl hu (fun u hu' => ?_)
    clear hu f1 f2 f3 f4 f5 f6 f7 f8 f9 f10 f11 f12 f13 f14 f15 a1 a2 a3 a4 a5 a6 a7 a8 a9 a10 a11 a12 a13
    obtain ⟨f1, f2, f3, f4, f5, f6, f7, f8, f9, f10, f11, f12, f13, f14, f15, a1, a2, a3, a4, a5, a6, a7, a8, a9, a10, a11, a12, a13⟩ := u
    dsimp only
    have hu := hu'
    clear hu'
    refine br_f (by decide) ?_
    refine qm_w_get 0 (by decide) hu rfl (br_t (Int32.add_comm _ _) ?_)
    refine qm_w_fresh (fun u hu' => ?_)
    clear hu f1 f2 f3 f4 f5 f6 f7 f8 f9 f10 f11 f12 f13 f14 f15 a1 a2 a3 a4 a5 a6 a7 a8 a9 a10 a11 a12 a13
    obtain ⟨f1, f2, f3, f4, f5, f6, f7, f8, f9, f10, f11, f12, f13, f14, f15, a1, a2, a3, a4, a5, a6, a7, a8, a9, a10, a11, a12, a13⟩ := u
    dsimp only
    have hu := hu'
    clear hu'
    refine qm_w_t 97 61 40 98 45 99 (by decide) (by decide) (by decide) (by decide) (by decide) (by decide) (by decide) hu rfl (fun u hu' => ?_)
    clear hu f1 f2 f3 f4 f5 f6 f7 f8 f9 f10 f11 f12 f13 f14 f15 a1 a2 a3 a4 a5 a6 a7 a8 a9 a10 a11 a12 a13
    obtain ⟨f1, f2, f3, f4, f5, f6, f7, f8, f9, f10, f11, f12, f13, f14, f15, a1, a2, a3, a4, a5, a6, a7, a8, a9, a10, a11, a12, a13⟩ := u
    dsimp only
    have hu := hu'
    clear hu'
    refine qm_w_t 41 42 40 98 43 99 (by decide) (by decide) (by decide) (by decide) (by decide) (by decide) (by decide) hu rfl (fun u hu' => ?_)
    clear hu f1 f2 f3 f4 f5 f6 f7 f8 f9 f10 f11 f12 f13 f14 f15 a1 a2 a3 a4 a5 a6 a7 a8 a9 a10 a11 a12 a13
    obtain ⟨f1, f2, f3, f4, f5, f6, f7, f8, f9, f10, f11, f12, f13, f14, f15, a1, a2, a3, a4, a5, a6, a7, a8, a9, a10, a11, a12, a13⟩ := u
    dsimp only
    have hu := hu'
    clear hu'
    refine qm_w_t 41 59 32 32 32 32 (by decide) (by decide) (by decide) (by decide) (by decide) (by decide) (by decide) hu (sr' := [97, 61, 40, 98, 45, 99, 41, 42, 40, 98, 43, 99, 41, 59]) (by decide) (fun u hu' => ?_)
    clear hu f1 f2 f3 f4 f5 f6 f7 f8 f9 f10 f11 f12 f13 f14 f15 a1 a2 a3 a4 a5 a6 a7 a8 a9 a10 a11 a12 a13
    obtain ⟨f1, f2, f3, f4, f5, f6, f7, f8, f9, f10, f11, f12, f13, f14, f15, a1, a2, a3, a4, a5, a6, a7, a8, a9, a10, a11, a12, a13⟩ := u
    dsimp only
    have hu := hu'
    clear hu'
    refine qm_w_runs qm_sr3 qm_c3 (by exact (show (8 : Nat) ≤ 200 by decide)) qm_x3 rfl hu (fun u hu' => ?_)
    clear hu f1 f2 f3 f4 f5 f6 f7 f8 f9 f10 f11 f12 f13 f14 f15 a1 a2 a3 a4 a5 a6 a7 a8 a9 a10 a11 a12 a13
    obtain ⟨f1, f2, f3, f4, f5, f6, f7, f8, f9, f10, f11, f12, f13, f14, f15, a1, a2, a3, a4, a5, a6, a7, a8, a9, a10, a11, a12, a13⟩ := u
    dsimp only
    have hu := hu'
    clear hu'
    refine br_f (by decide) ?_
    refine qm_w_get 0 (by decide) hu rfl ?_
    refine qm_w_fresh (fun u hu' => ?_)
    clear hu f1 f2 f3 f4 f5 f6 f7 f8 f9 f10 f11 f12 f13 f14 f15 a1 a2 a3 a4 a5 a6 a7 a8 a9 a10 a11 a12 a13
    obtain ⟨f1, f2, f3, f4, f5, f6, f7, f8, f9, f10, f11, f12, f13, f14, f15, a1, a2, a3, a4, a5, a6, a7, a8, a9, a10, a11, a12, a13⟩ := u
    dsimp only
    have hu := hu'
    clear hu'
    refine qm_w_t 97 61 98 42 98 45 (by decide) (by decide) (by decide) (by decide) (by decide) (by decide) (by decide) hu rfl (fun u hu' => ?_)
    clear hu f1 f2 f3 f4 f5 f6 f7 f8 f9 f10 f11 f12 f13 f14 f15 a1 a2 a3 a4 a5 a6 a7 a8 a9 a10 a11 a12 a13
    obtain ⟨f1, f2, f3, f4, f5, f6, f7, f8, f9, f10, f11, f12, f13, f14, f15, a1, a2, a3, a4, a5, a6, a7, a8, a9, a10, a11, a12, a13⟩ := u
    dsimp only
    have hu := hu'
    clear hu'
    refine qm_w_t 99 42 99 59 32 32 (by decide) (by decide) (by decide) (by decide) (by decide) (by decide) (by decide) hu (sr' := [97, 61, 98, 42, 98, 45, 99, 42, 99, 59]) (by decide) (fun u hu' => ?_)
    clear hu f1 f2 f3 f4 f5 f6 f7 f8 f9 f10 f11 f12 f13 f14 f15 a1 a2 a3 a4 a5 a6 a7 a8 a9 a10 a11 a12 a13
    obtain ⟨f1, f2, f3, f4, f5, f6, f7, f8, f9, f10, f11, f12, f13, f14, f15, a1, a2, a3, a4, a5, a6, a7, a8, a9, a10, a11, a12, a13⟩ := u
    dsimp only
    have hu := hu'
    clear hu'
    refine qm_w_runs qm_sr4 qm_c4 (by exact (show (8 : Nat) ≤ 200 by decide)) qm_x4 rfl hu (fun u hu' => ?_)
    clear hu f1 f2 f3 f4 f5 f6 f7 f8 f9 f10 f11 f12 f13 f14 f15 a1 a2 a3 a4 a5 a6 a7 a8 a9 a10 a11 a12 a13
    obtain ⟨f1, f2, f3, f4, f5, f6, f7, f8, f9, f10, f11, f12, f13, f14, f15, a1, a2, a3, a4, a5, a6, a7, a8, a9, a10, a11, a12, a13⟩ := u
    dsimp only
    have hu := hu'
    clear hu'
    refine br_f (by decide) ?_
    refine qm_w_get 0 (by decide) hu rfl (br_t qm_a4 ?_)
    refine qm_w_fresh (fun u hu' => ?_)
    clear hu f1 f2 f3 f4 f5 f6 f7 f8 f9 f10 f11 f12 f13 f14 f15 a1 a2 a3 a4 a5 a6 a7 a8 a9 a10 a11 a12 a13
    obtain ⟨f1, f2, f3, f4, f5, f6, f7, f8, f9, f10, f11, f12, f13, f14, f15, a1, a2, a3, a4, a5, a6, a7, a8, a9, a10, a11, a12, a13⟩ := u
    dsimp only
    have hu := hu'
    clear hu'
    refine qm_w_t 35 (48 + n) 123 97 61 97 (by decide) (by omega) (by decide) (by decide) (by decide) (by decide) (by decide) hu rfl (fun u hu' => ?_)
    clear hu f1 f2 f3 f4 f5 f6 f7 f8 f9 f10 f11 f12 f13 f14 f15 a1 a2 a3 a4 a5 a6 a7 a8 a9 a10 a11 a12 a13
    obtain ⟨f1, f2, f3, f4, f5, f6, f7, f8, f9, f10, f11, f12, f13, f14, f15, a1, a2, a3, a4, a5, a6, a7, a8, a9, a10, a11, a12, a13⟩ := u
    dsimp only
    have hu := hu'
    clear hu'
    refine qm_w_t 43 98 59 125 32 32 (by decide) (by decide) (by decide) (by decide) (by decide) (by decide) (qm_g5 n hn) hu (qm_d5 n hn) (fun u hu' => ?_)
    clear hu f1 f2 f3 f4 f5 f6 f7 f8 f9 f10 f11 f12 f13 f14 f15 a1 a2 a3 a4 a5 a6 a7 a8 a9 a10 a11 a12 a13
    obtain ⟨f1, f2, f3, f4, f5, f6, f7, f8, f9, f10, f11, f12, f13, f14, f15, a1, a2, a3, a4, a5, a6, a7, a8, a9, a10, a11, a12, a13⟩ := u
    dsimp only
    have hu := hu'
    clear hu'
    refine qm_w_runs (qm_sr5 n hn) (qm_c5 n hn) (by exact (show (6 : Nat) ≤ 200 by decide)) (qm_x5 n hn) rfl hu (fun u hu' => ?_)
    clear hu f1 f2 f3 f4 f5 f6 f7 f8 f9 f10 f11 f12 f13 f14 f15 a1 a2 a3 a4 a5 a6 a7 a8 a9 a10 a11 a12 a13
    obtain ⟨f1, f2, f3, f4, f5, f6, f7, f8, f9, f10, f11, f12, f13, f14, f15, a1, a2, a3, a4, a5, a6, a7, a8, a9, a10, a11, a12, a13⟩ := u
    dsimp only
    have hu := hu'
    clear hu'
    refine br_f (by decide) ?_
    refine qm_w_get 0 (by decide) hu rfl (br_t rfl ?_)
    refine qm_w_fresh (fun u hu' => ?_)
    clear hu f1 f2 f3 f4 f5 f6 f7 f8 f9 f10 f11 f12 f13 f14 f15 a1 a2 a3 a4 a5 a6 a7 a8 a9 a10 a11 a12 a13
    obtain ⟨f1, f2, f3, f4, f5, f6, f7, f8, f9, f10, f11, f12, f13, f14, f15, a1, a2, a3, a4, a5, a6, a7, a8, a9, a10, a11, a12, a13⟩ := u
    dsimp only
    have hu := hu'
    clear hu'
    refine qm_w_t 63 98 60 99 123 97 (by decide) (by decide) (by decide) (by decide) (by decide) (by decide) (by decide) hu rfl (fun u hu' => ?_)
    clear hu f1 f2 f3 f4 f5 f6 f7 f8 f9 f10 f11 f12 f13 f14 f15 a1 a2 a3 a4 a5 a6 a7 a8 a9 a10 a11 a12 a13
    obtain ⟨f1, f2, f3, f4, f5, f6, f7, f8, f9, f10, f11, f12, f13, f14, f15, a1, a2, a3, a4, a5, a6, a7, a8, a9, a10, a11, a12, a13⟩ := u
    dsimp only
    have hu := hu'
    clear hu'
    refine qm_w_t 61 98 59 125 63 49 (by decide) (by decide) (by decide) (by decide) (by decide) (by decide) (by decide) hu rfl (fun u hu' => ?_)
    clear hu f1 f2 f3 f4 f5 f6 f7 f8 f9 f10 f11 f12 f13 f14 f15 a1 a2 a3 a4 a5 a6 a7 a8 a9 a10 a11 a12 a13
    obtain ⟨f1, f2, f3, f4, f5, f6, f7, f8, f9, f10, f11, f12, f13, f14, f15, a1, a2, a3, a4, a5, a6, a7, a8, a9, a10, a11, a12, a13⟩ := u
    dsimp only
    have hu := hu'
    clear hu'
    refine qm_w_t 45 40 98 60 99 41 (by decide) (by decide) (by decide) (by decide) (by decide) (by decide) (by decide) hu rfl (fun u hu' => ?_)
    clear hu f1 f2 f3 f4 f5 f6 f7 f8 f9 f10 f11 f12 f13 f14 f15 a1 a2 a3 a4 a5 a6 a7 a8 a9 a10 a11 a12 a13
    obtain ⟨f1, f2, f3, f4, f5, f6, f7, f8, f9, f10, f11, f12, f13, f14, f15, a1, a2, a3, a4, a5, a6, a7, a8, a9, a10, a11, a12, a13⟩ := u
    dsimp only
    have hu := hu'
    clear hu'
    refine qm_w_t 123 97 61 99 59 125 (by decide) (by decide) (by decide) (by decide) (by decide) (by decide) (by decide) hu (sr' := [63, 98, 60, 99, 123, 97, 61, 98, 59, 125, 63, 49, 45, 40, 98, 60, 99, 41, 123, 97, 61, 99, 59, 125]) (by decide) (fun u hu' => ?_)
    clear hu f1 f2 f3 f4 f5 f6 f7 f8 f9 f10 f11 f12 f13 f14 f15 a1 a2 a3 a4 a5 a6 a7 a8 a9 a10 a11 a12 a13
    obtain ⟨f1, f2, f3, f4, f5, f6, f7, f8, f9, f10, f11, f12, f13, f14, f15, a1, a2, a3, a4, a5, a6, a7, a8, a9, a10, a11, a12, a13⟩ := u
    dsimp only
    have hu := hu'
    clear hu'
    refine qm_w_runs qm_sr6 qm_c6 (by exact (show (14 : Nat) ≤ 200 by decide)) qm_x6 rfl hu (fun u hu' => ?_)
    clear hu f1 f2 f3 f4 f5 f6 f7 f8 f9 f10 f11 f12 f13 f14 f15 a1 a2 a3 a4 a5 a6 a7 a8 a9 a10 a11 a12 a13
    obtain ⟨f1, f2, f3, f4, f5, f6, f7, f8, f9, f10, f11, f12, f13, f14, f15, a1, a2, a3, a4, a5, a6, a7, a8, a9, a10, a11, a12, a13⟩ := u
    dsimp only
    have hu := hu'
    clear hu'
    refine br_f (by decide) ?_
    refine qm_w_get 0 (by decide) hu rfl (br_c (fun g => ?_) (fun g => ?_))
    · exact br_t (if_pos g) (qm_w_get 1 (by decide) hu rfl (br_t rfl (qm_w_get 2 (by decide) hu rfl (br_t rfl (nm_r (nI_add k 4) (ih (k + 4) _ _ _ _ _ _ _ _ _ _ _ _ _ _ _ _ _ _ _ _ _ _ _ _ _ _ _ _ (by omega) (by omega)))))))
    · exact br_t (if_neg g) (qm_w_get 1 (by decide) hu rfl (br_t rfl (qm_w_get 2 (by decide) hu rfl (br_t rfl (nm_r (nI_add k 4) (ih (k + 4) _ _ _ _ _ _ _ _ _ _ _ _ _ _ _ _ _ _ _ _ _ _ _ _ _ _ _ _ (by omega) (by omega)))))))
end
section
theorem i_vc (xs : Nat → Int32) (L : Nat) (hL : L ≤ 260) : wpL_law (fun r => r = 1) L xs := by
  refine ⟨13, 1236, by decide, by decide, ?_⟩
  unfold wpX_init
  dsimp only
  refine ⟨by decide, by decide, by decide, by decide, by decide, by decide, by decide, by decide, by decide, by decide, by decide, by decide, by decide, by decide, by decide, by decide, by decide, by decide, by decide, by decide, by decide, by decide, by decide, by decide, by decide, by decide, ?_⟩
  exact ⟨66, qm_law hL 65 0 _ _ _ _ _ _ _ _ _ _ _ _ _ _ _ _ _ _ _ _ _ _ _ _ _ _ _ _ (by omega) (by omega)⟩
end
