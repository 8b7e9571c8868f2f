/-! every method as GG; its name is plain; the words of nwL by their numbers -/
set_option maxRecDepth 100000
abbrev gJ0_init : GG := (RJ0, cJ0_init, 2, none, "<init>", [])
theorem hJ0_init : yJ0_init.cls ≠ "java/lang/invoke/MethodHandle" ∧ yJ0_init.cls ≠ "java/lang/invoke/VarHandle" ∧ (parseMethodDescriptor yJ0_init.desc).map (fun d => d.parameters.length) = some 1 := by decide +kernel
abbrev gJ0_init_2 : GG := (RJ0, cJ0_init_2, 1, none, "<init>", [])
theorem hJ0_init_2 : yJ0_init_2.cls ≠ "java/lang/invoke/MethodHandle" ∧ yJ0_init_2.cls ≠ "java/lang/invoke/VarHandle" ∧ (parseMethodDescriptor yJ0_init_2.desc).map (fun d => d.parameters.length) = some 0 := by decide +kernel
abbrev gJ1_init : GG := (RJ1, cJ1_init, 2, none, "<init>", [])
theorem hJ1_init : yJ1_init.cls ≠ "java/lang/invoke/MethodHandle" ∧ yJ1_init.cls ≠ "java/lang/invoke/VarHandle" ∧ (parseMethodDescriptor yJ1_init.desc).map (fun d => d.parameters.length) = some 1 := by decide +kernel
abbrev gJ1_init_2 : GG := (RJ1, cJ1_init_2, 1, none, "<init>", [])
theorem hJ1_init_2 : yJ1_init_2.cls ≠ "java/lang/invoke/MethodHandle" ∧ yJ1_init_2.cls ≠ "java/lang/invoke/VarHandle" ∧ (parseMethodDescriptor yJ1_init_2.desc).map (fun d => d.parameters.length) = some 0 := by decide +kernel
abbrev gJ10_max : GG := (RJ10, cJ10_max, 2, (some .int), "max", [])
theorem hJ10_max : yJ10_max.cls ≠ "java/lang/invoke/MethodHandle" ∧ yJ10_max.cls ≠ "java/lang/invoke/VarHandle" ∧ (parseMethodDescriptor yJ10_max.desc).map (fun d => d.parameters.length) = some 2 := by decide +kernel
abbrev gJ10_min : GG := (RJ10, cJ10_min, 2, (some .int), "min", [])
theorem hJ10_min : yJ10_min.cls ≠ "java/lang/invoke/MethodHandle" ∧ yJ10_min.cls ≠ "java/lang/invoke/VarHandle" ∧ (parseMethodDescriptor yJ10_min.desc).map (fun d => d.parameters.length) = some 2 := by decide +kernel
abbrev gJ11_bitCount : GG := (RJ11, cJ11_bitCount, 1, (some .int), "bitCount", [])
theorem hJ11_bitCount : yJ11_bitCount.cls ≠ "java/lang/invoke/MethodHandle" ∧ yJ11_bitCount.cls ≠ "java/lang/invoke/VarHandle" ∧ (parseMethodDescriptor yJ11_bitCount.desc).map (fun d => d.parameters.length) = some 1 := by decide +kernel
abbrev gJ11_numberOfTrailingZeros : GG := (RJ11, cJ11_numberOfTrailingZeros, 2, (some .int), "numberOfTrailingZeros", [])
theorem hJ11_numberOfTrailingZeros : yJ11_numberOfTrailingZeros.cls ≠ "java/lang/invoke/MethodHandle" ∧ yJ11_numberOfTrailingZeros.cls ≠ "java/lang/invoke/VarHandle" ∧ (parseMethodDescriptor yJ11_numberOfTrailingZeros.desc).map (fun d => d.parameters.length) = some 1 := by decide +kernel
abbrev gJ12_init : GG := (RJ12, cJ12_init, 1, none, "<init>", [])
theorem hJ12_init : yJ12_init.cls ≠ "java/lang/invoke/MethodHandle" ∧ yJ12_init.cls ≠ "java/lang/invoke/VarHandle" ∧ (parseMethodDescriptor yJ12_init.desc).map (fun d => d.parameters.length) = some 0 := by decide +kernel
abbrev gJ2_init : GG := (RJ2, cJ2_init, 2, none, "<init>", [])
theorem hJ2_init : yJ2_init.cls ≠ "java/lang/invoke/MethodHandle" ∧ yJ2_init.cls ≠ "java/lang/invoke/VarHandle" ∧ (parseMethodDescriptor yJ2_init.desc).map (fun d => d.parameters.length) = some 1 := by decide +kernel
abbrev gJ2_init_2 : GG := (RJ2, cJ2_init_2, 1, none, "<init>", [])
theorem hJ2_init_2 : yJ2_init_2.cls ≠ "java/lang/invoke/MethodHandle" ∧ yJ2_init_2.cls ≠ "java/lang/invoke/VarHandle" ∧ (parseMethodDescriptor yJ2_init_2.desc).map (fun d => d.parameters.length) = some 0 := by decide +kernel
abbrev gJ3_init : GG := (RJ3, cJ3_init, 2, none, "<init>", [])
theorem hJ3_init : yJ3_init.cls ≠ "java/lang/invoke/MethodHandle" ∧ yJ3_init.cls ≠ "java/lang/invoke/VarHandle" ∧ (parseMethodDescriptor yJ3_init.desc).map (fun d => d.parameters.length) = some 1 := by decide +kernel
abbrev gJ5_init : GG := (RJ5, cJ5_init, 1, none, "<init>", [])
theorem hJ5_init : yJ5_init.cls ≠ "java/lang/invoke/MethodHandle" ∧ yJ5_init.cls ≠ "java/lang/invoke/VarHandle" ∧ (parseMethodDescriptor yJ5_init.desc).map (fun d => d.parameters.length) = some 0 := by decide +kernel
abbrev gJ6_init : GG := (RJ6, cJ6_init, 2, none, "<init>", [])
theorem hJ6_init : yJ6_init.cls ≠ "java/lang/invoke/MethodHandle" ∧ yJ6_init.cls ≠ "java/lang/invoke/VarHandle" ∧ (parseMethodDescriptor yJ6_init.desc).map (fun d => d.parameters.length) = some 1 := by decide +kernel
abbrev gJ7_init : GG := (RJ7, cJ7_init, 2, none, "<init>", [])
theorem hJ7_init : yJ7_init.cls ≠ "java/lang/invoke/MethodHandle" ∧ yJ7_init.cls ≠ "java/lang/invoke/VarHandle" ∧ (parseMethodDescriptor yJ7_init.desc).map (fun d => d.parameters.length) = some 1 := by decide +kernel
abbrev gJ8_init : GG := (RJ8, cJ8_init, 2, none, "<init>", [])
theorem hJ8_init : yJ8_init.cls ≠ "java/lang/invoke/MethodHandle" ∧ yJ8_init.cls ≠ "java/lang/invoke/VarHandle" ∧ (parseMethodDescriptor yJ8_init.desc).map (fun d => d.parameters.length) = some 1 := by decide +kernel
abbrev gJ9_init : GG := (RJ9, cJ9_init, 2, none, "<init>", [])
theorem hJ9_init : yJ9_init.cls ≠ "java/lang/invoke/MethodHandle" ∧ yJ9_init.cls ≠ "java/lang/invoke/VarHandle" ∧ (parseMethodDescriptor yJ9_init.desc).map (fun d => d.parameters.length) = some 1 := by decide +kernel
abbrev gX0_init : GG := (RX0, cX0_init, 1, none, "<init>", [])
theorem hX0_init : yX0_init.cls ≠ "java/lang/invoke/MethodHandle" ∧ yX0_init.cls ≠ "java/lang/invoke/VarHandle" ∧ (parseMethodDescriptor yX0_init.desc).map (fun d => d.parameters.length) = some 0 := by decide +kernel
abbrev gX0_row : GG := (RX0, cX0_row, 4, (some .int), "row", [((15), (25), (26), (94))])
theorem hX0_row : yX0_row.cls ≠ "java/lang/invoke/MethodHandle" ∧ yX0_row.cls ≠ "java/lang/invoke/VarHandle" ∧ (parseMethodDescriptor yX0_row.desc).map (fun d => d.parameters.length) = some 2 := by decide +kernel
abbrev gX0_isRow : GG := (RX0, cX0_isRow, 1, (some .boolean), "isRow", [])
theorem hX0_isRow : yX0_isRow.cls ≠ "java/lang/invoke/MethodHandle" ∧ yX0_isRow.cls ≠ "java/lang/invoke/VarHandle" ∧ (parseMethodDescriptor yX0_isRow.desc).map (fun d => d.parameters.length) = some 1 := by decide +kernel
abbrev gX0_isIn : GG := (RX0, cX0_isIn, 3, (some .boolean), "isIn", [])
theorem hX0_isIn : yX0_isIn.cls ≠ "java/lang/invoke/MethodHandle" ∧ yX0_isIn.cls ≠ "java/lang/invoke/VarHandle" ∧ (parseMethodDescriptor yX0_isIn.desc).map (fun d => d.parameters.length) = some 3 := by decide +kernel
abbrev gX0_found : GG := (RX0, cX0_found, 2, (some .int), "found", [])
theorem hX0_found : yX0_found.cls ≠ "java/lang/invoke/MethodHandle" ∧ yX0_found.cls ≠ "java/lang/invoke/VarHandle" ∧ (parseMethodDescriptor yX0_found.desc).map (fun d => d.parameters.length) = some 1 := by decide +kernel
abbrev gX0_lay : GG := (RX0, cX0_lay, 5, (some .int), "lay", [])
theorem hX0_lay : yX0_lay.cls ≠ "java/lang/invoke/MethodHandle" ∧ yX0_lay.cls ≠ "java/lang/invoke/VarHandle" ∧ (parseMethodDescriptor yX0_lay.desc).map (fun d => d.parameters.length) = some 3 := by decide +kernel
abbrev gX0_at : GG := (RX0, cX0_at, 4, (some .int), "at", [((9), (22), (23), (107)), ((9), (22), (30), (109))])
theorem hX0_at : yX0_at.cls ≠ "java/lang/invoke/MethodHandle" ∧ yX0_at.cls ≠ "java/lang/invoke/VarHandle" ∧ (parseMethodDescriptor yX0_at.desc).map (fun d => d.parameters.length) = some 2 := by decide +kernel
abbrev gX0_ask : GG := (RX0, cX0_ask, 3, (some .int), "ask", [])
theorem hX0_ask : yX0_ask.cls ≠ "java/lang/invoke/MethodHandle" ∧ yX0_ask.cls ≠ "java/lang/invoke/VarHandle" ∧ (parseMethodDescriptor yX0_ask.desc).map (fun d => d.parameters.length) = some 2 := by decide +kernel
abbrev gX0_tear : GG := (RX0, cX0_tear, 2, (some .int), "tear", [])
theorem hX0_tear : yX0_tear.cls ≠ "java/lang/invoke/MethodHandle" ∧ yX0_tear.cls ≠ "java/lang/invoke/VarHandle" ∧ (parseMethodDescriptor yX0_tear.desc).map (fun d => d.parameters.length) = some 1 := by decide +kernel
abbrev gX0_copy : GG := (RX0, cX0_copy, 7, (some .int), "copy", [((27), (48), (49), (107)), ((27), (48), (57), (117))])
theorem hX0_copy : yX0_copy.cls ≠ "java/lang/invoke/MethodHandle" ∧ yX0_copy.cls ≠ "java/lang/invoke/VarHandle" ∧ (parseMethodDescriptor yX0_copy.desc).map (fun d => d.parameters.length) = some 5 := by decide +kernel
abbrev gX0_mean : GG := (RX0, cX0_mean, 8, (some .int), "mean", [((9), (69), (70), (107)), ((9), (69), (77), (119))])
theorem hX0_mean : yX0_mean.cls ≠ "java/lang/invoke/MethodHandle" ∧ yX0_mean.cls ≠ "java/lang/invoke/VarHandle" ∧ (parseMethodDescriptor yX0_mean.desc).map (fun d => d.parameters.length) = some 1 := by decide +kernel
abbrev gX0_text : GG := (RX0, cX0_text, 5, (some .int), "text", [((15), (48), (49), (94))])
theorem hX0_text : yX0_text.cls ≠ "java/lang/invoke/MethodHandle" ∧ yX0_text.cls ≠ "java/lang/invoke/VarHandle" ∧ (parseMethodDescriptor yX0_text.desc).map (fun d => d.parameters.length) = some 2 := by decide +kernel
abbrev gX0_isText : GG := (RX0, cX0_isText, 1, (some .boolean), "isText", [])
theorem hX0_isText : yX0_isText.cls ≠ "java/lang/invoke/MethodHandle" ∧ yX0_isText.cls ≠ "java/lang/invoke/VarHandle" ∧ (parseMethodDescriptor yX0_isText.desc).map (fun d => d.parameters.length) = some 1 := by decide +kernel
abbrev gX0_put : GG := (RX0, cX0_put, 5, (some .int), "put", [((9), (35), (36), (107)), ((9), (35), (44), (109))])
theorem hX0_put : yX0_put.cls ≠ "java/lang/invoke/MethodHandle" ∧ yX0_put.cls ≠ "java/lang/invoke/VarHandle" ∧ (parseMethodDescriptor yX0_put.desc).map (fun d => d.parameters.length) = some 3 := by decide +kernel
abbrev gX0_fault : GG := (RX0, cX0_fault, 2, (some .int), "fault", [])
theorem hX0_fault : yX0_fault.cls ≠ "java/lang/invoke/MethodHandle" ∧ yX0_fault.cls ≠ "java/lang/invoke/VarHandle" ∧ (parseMethodDescriptor yX0_fault.desc).map (fun d => d.parameters.length) = some 1 := by decide +kernel
abbrev gX0_goesOn : GG := (RX0, cX0_goesOn, 2, (some .int), "goesOn", [])
theorem hX0_goesOn : yX0_goesOn.cls ≠ "java/lang/invoke/MethodHandle" ∧ yX0_goesOn.cls ≠ "java/lang/invoke/VarHandle" ∧ (parseMethodDescriptor yX0_goesOn.desc).map (fun d => d.parameters.length) = some 1 := by decide +kernel
abbrev gX0_sign : GG := (RX0, cX0_sign, 1, (some .int), "sign", [])
theorem hX0_sign : yX0_sign.cls ≠ "java/lang/invoke/MethodHandle" ∧ yX0_sign.cls ≠ "java/lang/invoke/VarHandle" ∧ (parseMethodDescriptor yX0_sign.desc).map (fun d => d.parameters.length) = some 0 := by decide +kernel
abbrev gX0_readsQuestion : GG := (RX0, cX0_readsQuestion, 5, (some .boolean), "readsQuestion", [])
theorem hX0_readsQuestion : yX0_readsQuestion.cls ≠ "java/lang/invoke/MethodHandle" ∧ yX0_readsQuestion.cls ≠ "java/lang/invoke/VarHandle" ∧ (parseMethodDescriptor yX0_readsQuestion.desc).map (fun d => d.parameters.length) = some 0 := by decide +kernel
abbrev gX0_readsFigure : GG := (RX0, cX0_readsFigure, 4, (some .int), "readsFigure", [])
theorem hX0_readsFigure : yX0_readsFigure.cls ≠ "java/lang/invoke/MethodHandle" ∧ yX0_readsFigure.cls ≠ "java/lang/invoke/VarHandle" ∧ (parseMethodDescriptor yX0_readsFigure.desc).map (fun d => d.parameters.length) = some 2 := by decide +kernel
abbrev gX0_readsCard : GG := (RX0, cX0_readsCard, 4, (some .boolean), "readsCard", [])
theorem hX0_readsCard : yX0_readsCard.cls ≠ "java/lang/invoke/MethodHandle" ∧ yX0_readsCard.cls ≠ "java/lang/invoke/VarHandle" ∧ (parseMethodDescriptor yX0_readsCard.desc).map (fun d => d.parameters.length) = some 0 := by decide +kernel
abbrev gX0_isCardSign : GG := (RX0, cX0_isCardSign, 1, (some .boolean), "isCardSign", [])
theorem hX0_isCardSign : yX0_isCardSign.cls ≠ "java/lang/invoke/MethodHandle" ∧ yX0_isCardSign.cls ≠ "java/lang/invoke/VarHandle" ∧ (parseMethodDescriptor yX0_isCardSign.desc).map (fun d => d.parameters.length) = some 1 := by decide +kernel
abbrev gX0_library : GG := (RX0, cX0_library, 3, (some .int), "library", [])
theorem hX0_library : yX0_library.cls ≠ "java/lang/invoke/MethodHandle" ∧ yX0_library.cls ≠ "java/lang/invoke/VarHandle" ∧ (parseMethodDescriptor yX0_library.desc).map (fun d => d.parameters.length) = some 1 := by decide +kernel
abbrev gX0_newCard : GG := (RX0, cX0_newCard, 5, (some (.object "LostQuestions$Card")), "newCard", [])
theorem hX0_newCard : yX0_newCard.cls ≠ "java/lang/invoke/MethodHandle" ∧ yX0_newCard.cls ≠ "java/lang/invoke/VarHandle" ∧ (parseMethodDescriptor yX0_newCard.desc).map (fun d => d.parameters.length) = some 5 := by decide +kernel
abbrev gX0_card : GG := (RX0, cX0_card, 3, (some .int), "card", [])
theorem hX0_card : yX0_card.cls ≠ "java/lang/invoke/MethodHandle" ∧ yX0_card.cls ≠ "java/lang/invoke/VarHandle" ∧ (parseMethodDescriptor yX0_card.desc).map (fun d => d.parameters.length) = some 2 := by decide +kernel
abbrev gX0_isCard : GG := (RX0, cX0_isCard, 2, (some .boolean), "isCard", [])
theorem hX0_isCard : yX0_isCard.cls ≠ "java/lang/invoke/MethodHandle" ∧ yX0_isCard.cls ≠ "java/lang/invoke/VarHandle" ∧ (parseMethodDescriptor yX0_isCard.desc).map (fun d => d.parameters.length) = some 1 := by decide +kernel
abbrev gX0_cardTells : GG := (RX0, cX0_cardTells, 4, (some .int), "cardTells", [])
theorem hX0_cardTells : yX0_cardTells.cls ≠ "java/lang/invoke/MethodHandle" ∧ yX0_cardTells.cls ≠ "java/lang/invoke/VarHandle" ∧ (parseMethodDescriptor yX0_cardTells.desc).map (fun d => d.parameters.length) = some 2 := by decide +kernel
abbrev gX0_answers : GG := (RX0, cX0_answers, 3, (some .int), "answers", [])
theorem hX0_answers : yX0_answers.cls ≠ "java/lang/invoke/MethodHandle" ∧ yX0_answers.cls ≠ "java/lang/invoke/VarHandle" ∧ (parseMethodDescriptor yX0_answers.desc).map (fun d => d.parameters.length) = some 1 := by decide +kernel
abbrev gX0_question : GG := (RX0, cX0_question, 3, (some .int), "question", [])
theorem hX0_question : yX0_question.cls ≠ "java/lang/invoke/MethodHandle" ∧ yX0_question.cls ≠ "java/lang/invoke/VarHandle" ∧ (parseMethodDescriptor yX0_question.desc).map (fun d => d.parameters.length) = some 2 := by decide +kernel
abbrev gX0_isQuestion : GG := (RX0, cX0_isQuestion, 2, (some .boolean), "isQuestion", [])
theorem hX0_isQuestion : yX0_isQuestion.cls ≠ "java/lang/invoke/MethodHandle" ∧ yX0_isQuestion.cls ≠ "java/lang/invoke/VarHandle" ∧ (parseMethodDescriptor yX0_isQuestion.desc).map (fun d => d.parameters.length) = some 1 := by decide +kernel
abbrev gX0_questionTells : GG := (RX0, cX0_questionTells, 3, (some .int), "questionTells", [])
theorem hX0_questionTells : yX0_questionTells.cls ≠ "java/lang/invoke/MethodHandle" ∧ yX0_questionTells.cls ≠ "java/lang/invoke/VarHandle" ∧ (parseMethodDescriptor yX0_questionTells.desc).map (fun d => d.parameters.length) = some 2 := by decide +kernel
abbrev gX0_askOf : GG := (RX0, cX0_askOf, 3, (some .int), "askOf", [])
theorem hX0_askOf : yX0_askOf.cls ≠ "java/lang/invoke/MethodHandle" ∧ yX0_askOf.cls ≠ "java/lang/invoke/VarHandle" ∧ (parseMethodDescriptor yX0_askOf.desc).map (fun d => d.parameters.length) = some 2 := by decide +kernel
abbrev gX0_mark : GG := (RX0, cX0_mark, 5, (some .int), "mark", [((26), (64), (100), (244)), ((65), (73), (100), (244)), ((74), (82), (100), (244)), ((83), (90), (100), (244)), ((91), (99), (100), (244))])
theorem hX0_mark : yX0_mark.cls ≠ "java/lang/invoke/MethodHandle" ∧ yX0_mark.cls ≠ "java/lang/invoke/VarHandle" ∧ (parseMethodDescriptor yX0_mark.desc).map (fun d => d.parameters.length) = some 2 := by decide +kernel
abbrev gX0_meaning : GG := (RX0, cX0_meaning, 5, (some .int), "meaning", [])
theorem hX0_meaning : yX0_meaning.cls ≠ "java/lang/invoke/MethodHandle" ∧ yX0_meaning.cls ≠ "java/lang/invoke/VarHandle" ∧ (parseMethodDescriptor yX0_meaning.desc).map (fun d => d.parameters.length) = some 2 := by decide +kernel
abbrev gX0_onShelf : GG := (RX0, cX0_onShelf, 4, (some .int), "onShelf", [])
theorem hX0_onShelf : yX0_onShelf.cls ≠ "java/lang/invoke/MethodHandle" ∧ yX0_onShelf.cls ≠ "java/lang/invoke/VarHandle" ∧ (parseMethodDescriptor yX0_onShelf.desc).map (fun d => d.parameters.length) = some 1 := by decide +kernel
abbrev gX0_fitted : GG := (RX0, cX0_fitted, 4, (some .int), "fitted", [])
theorem hX0_fitted : yX0_fitted.cls ≠ "java/lang/invoke/MethodHandle" ∧ yX0_fitted.cls ≠ "java/lang/invoke/VarHandle" ∧ (parseMethodDescriptor yX0_fitted.desc).map (fun d => d.parameters.length) = some 1 := by decide +kernel
abbrev gX0_doesFit : GG := (RX0, cX0_doesFit, 3, (some .boolean), "doesFit", [])
theorem hX0_doesFit : yX0_doesFit.cls ≠ "java/lang/invoke/MethodHandle" ∧ yX0_doesFit.cls ≠ "java/lang/invoke/VarHandle" ∧ (parseMethodDescriptor yX0_doesFit.desc).map (fun d => d.parameters.length) = some 2 := by decide +kernel
abbrev gX0_isFor : GG := (RX0, cX0_isFor, 4, (some .boolean), "isFor", [])
theorem hX0_isFor : yX0_isFor.cls ≠ "java/lang/invoke/MethodHandle" ∧ yX0_isFor.cls ≠ "java/lang/invoke/VarHandle" ∧ (parseMethodDescriptor yX0_isFor.desc).map (fun d => d.parameters.length) = some 4 := by decide +kernel
abbrev gX0_saying : GG := (RX0, cX0_saying, 5, (some .int), "saying", [])
theorem hX0_saying : yX0_saying.cls ≠ "java/lang/invoke/MethodHandle" ∧ yX0_saying.cls ≠ "java/lang/invoke/VarHandle" ∧ (parseMethodDescriptor yX0_saying.desc).map (fun d => d.parameters.length) = some 2 := by decide +kernel
abbrev gX0_shelve : GG := (RX0, cX0_shelve, 4, (some .int), "shelve", [])
theorem hX0_shelve : yX0_shelve.cls ≠ "java/lang/invoke/MethodHandle" ∧ yX0_shelve.cls ≠ "java/lang/invoke/VarHandle" ∧ (parseMethodDescriptor yX0_shelve.desc).map (fun d => d.parameters.length) = some 2 := by decide +kernel
abbrev gX0_age : GG := (RX0, cX0_age, 4, (some .int), "age", [])
theorem hX0_age : yX0_age.cls ≠ "java/lang/invoke/MethodHandle" ∧ yX0_age.cls ≠ "java/lang/invoke/VarHandle" ∧ (parseMethodDescriptor yX0_age.desc).map (fun d => d.parameters.length) = some 2 := by decide +kernel
abbrev gX0_truth : GG := (RX0, cX0_truth, 4, (some .int), "truth", [])
theorem hX0_truth : yX0_truth.cls ≠ "java/lang/invoke/MethodHandle" ∧ yX0_truth.cls ≠ "java/lang/invoke/VarHandle" ∧ (parseMethodDescriptor yX0_truth.desc).map (fun d => d.parameters.length) = some 2 := by decide +kernel
abbrev gX0_fits : GG := (RX0, cX0_fits, 2, (some .int), "fits", [])
theorem hX0_fits : yX0_fits.cls ≠ "java/lang/invoke/MethodHandle" ∧ yX0_fits.cls ≠ "java/lang/invoke/VarHandle" ∧ (parseMethodDescriptor yX0_fits.desc).map (fun d => d.parameters.length) = some 1 := by decide +kernel
abbrev gX0_fitSet : GG := (RX0, cX0_fitSet, 4, (some .int), "fitSet", [])
theorem hX0_fitSet : yX0_fitSet.cls ≠ "java/lang/invoke/MethodHandle" ∧ yX0_fitSet.cls ≠ "java/lang/invoke/VarHandle" ∧ (parseMethodDescriptor yX0_fitSet.desc).map (fun d => d.parameters.length) = some 1 := by decide +kernel
abbrev gX0_take : GG := (RX0, cX0_take, 3, (some .int), "take", [])
theorem hX0_take : yX0_take.cls ≠ "java/lang/invoke/MethodHandle" ∧ yX0_take.cls ≠ "java/lang/invoke/VarHandle" ∧ (parseMethodDescriptor yX0_take.desc).map (fun d => d.parameters.length) = some 2 := by decide +kernel
abbrev gX0_mayTake : GG := (RX0, cX0_mayTake, 3, (some .boolean), "mayTake", [])
theorem hX0_mayTake : yX0_mayTake.cls ≠ "java/lang/invoke/MethodHandle" ∧ yX0_mayTake.cls ≠ "java/lang/invoke/VarHandle" ∧ (parseMethodDescriptor yX0_mayTake.desc).map (fun d => d.parameters.length) = some 2 := by decide +kernel
abbrev gX0_takeTruly : GG := (RX0, cX0_takeTruly, 3, (some .int), "takeTruly", [])
theorem hX0_takeTruly : yX0_takeTruly.cls ≠ "java/lang/invoke/MethodHandle" ∧ yX0_takeTruly.cls ≠ "java/lang/invoke/VarHandle" ∧ (parseMethodDescriptor yX0_takeTruly.desc).map (fun d => d.parameters.length) = some 2 := by decide +kernel
abbrev gX0_isRight : GG := (RX0, cX0_isRight, 2, (some .int), "isRight", [])
theorem hX0_isRight : yX0_isRight.cls ≠ "java/lang/invoke/MethodHandle" ∧ yX0_isRight.cls ≠ "java/lang/invoke/VarHandle" ∧ (parseMethodDescriptor yX0_isRight.desc).map (fun d => d.parameters.length) = some 1 := by decide +kernel
abbrev gX0_bring : GG := (RX0, cX0_bring, 3, (some .int), "bring", [])
theorem hX0_bring : yX0_bring.cls ≠ "java/lang/invoke/MethodHandle" ∧ yX0_bring.cls ≠ "java/lang/invoke/VarHandle" ∧ (parseMethodDescriptor yX0_bring.desc).map (fun d => d.parameters.length) = some 1 := by decide +kernel
abbrev gX0_undo : GG := (RX0, cX0_undo, 3, (some .int), "undo", [])
theorem hX0_undo : yX0_undo.cls ≠ "java/lang/invoke/MethodHandle" ∧ yX0_undo.cls ≠ "java/lang/invoke/VarHandle" ∧ (parseMethodDescriptor yX0_undo.desc).map (fun d => d.parameters.length) = some 1 := by decide +kernel
abbrev gX0_right : GG := (RX0, cX0_right, 1, (some .int), "right", [])
theorem hX0_right : yX0_right.cls ≠ "java/lang/invoke/MethodHandle" ∧ yX0_right.cls ≠ "java/lang/invoke/VarHandle" ∧ (parseMethodDescriptor yX0_right.desc).map (fun d => d.parameters.length) = some 0 := by decide +kernel
abbrev gX0_rightMany : GG := (RX0, cX0_rightMany, 4, (some .int), "rightMany", [])
theorem hX0_rightMany : yX0_rightMany.cls ≠ "java/lang/invoke/MethodHandle" ∧ yX0_rightMany.cls ≠ "java/lang/invoke/VarHandle" ∧ (parseMethodDescriptor yX0_rightMany.desc).map (fun d => d.parameters.length) = some 1 := by decide +kernel
abbrev gX0_keep : GG := (RX0, cX0_keep, 4, (some .int), "keep", [])
theorem hX0_keep : yX0_keep.cls ≠ "java/lang/invoke/MethodHandle" ∧ yX0_keep.cls ≠ "java/lang/invoke/VarHandle" ∧ (parseMethodDescriptor yX0_keep.desc).map (fun d => d.parameters.length) = some 1 := by decide +kernel
abbrev gX0_isKept : GG := (RX0, cX0_isKept, 1, (some .boolean), "isKept", [])
theorem hX0_isKept : yX0_isKept.cls ≠ "java/lang/invoke/MethodHandle" ∧ yX0_isKept.cls ≠ "java/lang/invoke/VarHandle" ∧ (parseMethodDescriptor yX0_isKept.desc).map (fun d => d.parameters.length) = some 1 := by decide +kernel
abbrev gX0_on : GG := (RX0, cX0_on, 4, (some .int), "on", [])
theorem hX0_on : yX0_on.cls ≠ "java/lang/invoke/MethodHandle" ∧ yX0_on.cls ≠ "java/lang/invoke/VarHandle" ∧ (parseMethodDescriptor yX0_on.desc).map (fun d => d.parameters.length) = some 1 := by decide +kernel
abbrev gX0_match : GG := (RX0, cX0_match, 2, (some .int), "match", [])
theorem hX0_match : yX0_match.cls ≠ "java/lang/invoke/MethodHandle" ∧ yX0_match.cls ≠ "java/lang/invoke/VarHandle" ∧ (parseMethodDescriptor yX0_match.desc).map (fun d => d.parameters.length) = some 1 := by decide +kernel
abbrev gX0_matchTo : GG := (RX0, cX0_matchTo, 3, (some .int), "matchTo", [])
theorem hX0_matchTo : yX0_matchTo.cls ≠ "java/lang/invoke/MethodHandle" ∧ yX0_matchTo.cls ≠ "java/lang/invoke/VarHandle" ∧ (parseMethodDescriptor yX0_matchTo.desc).map (fun d => d.parameters.length) = some 2 := by decide +kernel
abbrev gX0_freeCards : GG := (RX0, cX0_freeCards, 3, (some .int), "freeCards", [])
theorem hX0_freeCards : yX0_freeCards.cls ≠ "java/lang/invoke/MethodHandle" ∧ yX0_freeCards.cls ≠ "java/lang/invoke/VarHandle" ∧ (parseMethodDescriptor yX0_freeCards.desc).map (fun d => d.parameters.length) = some 0 := by decide +kernel
abbrev gX0_bestOn : GG := (RX0, cX0_bestOn, 7, none, "bestOn", [])
theorem hX0_bestOn : yX0_bestOn.cls ≠ "java/lang/invoke/MethodHandle" ∧ yX0_bestOn.cls ≠ "java/lang/invoke/VarHandle" ∧ (parseMethodDescriptor yX0_bestOn.desc).map (fun d => d.parameters.length) = some 4 := by decide +kernel
abbrev gX0_mayAnswer : GG := (RX0, cX0_mayAnswer, 5, (some .int), "mayAnswer", [])
theorem hX0_mayAnswer : yX0_mayAnswer.cls ≠ "java/lang/invoke/MethodHandle" ∧ yX0_mayAnswer.cls ≠ "java/lang/invoke/VarHandle" ∧ (parseMethodDescriptor yX0_mayAnswer.desc).map (fun d => d.parameters.length) = some 2 := by decide +kernel
abbrev gX0_has : GG := (RX0, cX0_has, 2, (some .boolean), "has", [])
theorem hX0_has : yX0_has.cls ≠ "java/lang/invoke/MethodHandle" ∧ yX0_has.cls ≠ "java/lang/invoke/VarHandle" ∧ (parseMethodDescriptor yX0_has.desc).map (fun d => d.parameters.length) = some 2 := by decide +kernel
abbrev gX0_wished : GG := (RX0, cX0_wished, 2, (some .int), "wished", [])
theorem hX0_wished : yX0_wished.cls ≠ "java/lang/invoke/MethodHandle" ∧ yX0_wished.cls ≠ "java/lang/invoke/VarHandle" ∧ (parseMethodDescriptor yX0_wished.desc).map (fun d => d.parameters.length) = some 1 := by decide +kernel
abbrev gX0_fullest : GG := (RX0, cX0_fullest, 3, (some .int), "fullest", [])
theorem hX0_fullest : yX0_fullest.cls ≠ "java/lang/invoke/MethodHandle" ∧ yX0_fullest.cls ≠ "java/lang/invoke/VarHandle" ∧ (parseMethodDescriptor yX0_fullest.desc).map (fun d => d.parameters.length) = some 0 := by decide +kernel
abbrev gX0_setFullest : GG := (RX0, cX0_setFullest, 2, none, "setFullest", [])
theorem hX0_setFullest : yX0_setFullest.cls ≠ "java/lang/invoke/MethodHandle" ∧ yX0_setFullest.cls ≠ "java/lang/invoke/VarHandle" ∧ (parseMethodDescriptor yX0_setFullest.desc).map (fun d => d.parameters.length) = some 0 := by decide +kernel
abbrev gX0_fullOn : GG := (RX0, cX0_fullOn, 6, none, "fullOn", [])
theorem hX0_fullOn : yX0_fullOn.cls ≠ "java/lang/invoke/MethodHandle" ∧ yX0_fullOn.cls ≠ "java/lang/invoke/VarHandle" ∧ (parseMethodDescriptor yX0_fullOn.desc).map (fun d => d.parameters.length) = some 3 := by decide +kernel
abbrev gX0_may : GG := (RX0, cX0_may, 4, (some .int), "may", [])
theorem hX0_may : yX0_may.cls ≠ "java/lang/invoke/MethodHandle" ∧ yX0_may.cls ≠ "java/lang/invoke/VarHandle" ∧ (parseMethodDescriptor yX0_may.desc).map (fun d => d.parameters.length) = some 1 := by decide +kernel
abbrev gX0_sure : GG := (RX0, cX0_sure, 3, (some .int), "sure", [])
theorem hX0_sure : yX0_sure.cls ≠ "java/lang/invoke/MethodHandle" ∧ yX0_sure.cls ≠ "java/lang/invoke/VarHandle" ∧ (parseMethodDescriptor yX0_sure.desc).map (fun d => d.parameters.length) = some 1 := by decide +kernel
abbrev gX0_test : GG := (RX0, cX0_test, 8, (some .int), "test", [])
theorem hX0_test : yX0_test.cls ≠ "java/lang/invoke/MethodHandle" ∧ yX0_test.cls ≠ "java/lang/invoke/VarHandle" ∧ (parseMethodDescriptor yX0_test.desc).map (fun d => d.parameters.length) = some 0 := by decide +kernel
abbrev gX0_odds : GG := (RX0, cX0_odds, 3, (some .int), "odds", [])
theorem hX0_odds : yX0_odds.cls ≠ "java/lang/invoke/MethodHandle" ∧ yX0_odds.cls ≠ "java/lang/invoke/VarHandle" ∧ (parseMethodDescriptor yX0_odds.desc).map (fun d => d.parameters.length) = some 2 := by decide +kernel
abbrev gX0_chances : GG := (RX0, cX0_chances, 6, (some .int), "chances", [])
theorem hX0_chances : yX0_chances.cls ≠ "java/lang/invoke/MethodHandle" ∧ yX0_chances.cls ≠ "java/lang/invoke/VarHandle" ∧ (parseMethodDescriptor yX0_chances.desc).map (fun d => d.parameters.length) = some 2 := by decide +kernel
abbrev gX0_worlds : GG := (RX0, cX0_worlds, 5, (some .int), "worlds", [])
theorem hX0_worlds : yX0_worlds.cls ≠ "java/lang/invoke/MethodHandle" ∧ yX0_worlds.cls ≠ "java/lang/invoke/VarHandle" ∧ (parseMethodDescriptor yX0_worlds.desc).map (fun d => d.parameters.length) = some 0 := by decide +kernel
abbrev gX0_never : GG := (RX0, cX0_never, 5, (some .int), "never", [])
theorem hX0_never : yX0_never.cls ≠ "java/lang/invoke/MethodHandle" ∧ yX0_never.cls ≠ "java/lang/invoke/VarHandle" ∧ (parseMethodDescriptor yX0_never.desc).map (fun d => d.parameters.length) = some 0 := by decide +kernel
abbrev gX0_parts : GG := (RX0, cX0_parts, 10, (some .int), "parts", [])
theorem hX0_parts : yX0_parts.cls ≠ "java/lang/invoke/MethodHandle" ∧ yX0_parts.cls ≠ "java/lang/invoke/VarHandle" ∧ (parseMethodDescriptor yX0_parts.desc).map (fun d => d.parameters.length) = some 0 := by decide +kernel
abbrev gX0_size : GG := (RX0, cX0_size, 1, (some .int), "size", [])
theorem hX0_size : yX0_size.cls ≠ "java/lang/invoke/MethodHandle" ∧ yX0_size.cls ≠ "java/lang/invoke/VarHandle" ∧ (parseMethodDescriptor yX0_size.desc).map (fun d => d.parameters.length) = some 1 := by decide +kernel
abbrev gX0_finds : GG := (RX0, cX0_finds, 6, (some .int), "finds", [])
theorem hX0_finds : yX0_finds.cls ≠ "java/lang/invoke/MethodHandle" ∧ yX0_finds.cls ≠ "java/lang/invoke/VarHandle" ∧ (parseMethodDescriptor yX0_finds.desc).map (fun d => d.parameters.length) = some 1 := by decide +kernel
abbrev gX0_partOf : GG := (RX0, cX0_partOf, 4, (some .int), "partOf", [])
theorem hX0_partOf : yX0_partOf.cls ≠ "java/lang/invoke/MethodHandle" ∧ yX0_partOf.cls ≠ "java/lang/invoke/VarHandle" ∧ (parseMethodDescriptor yX0_partOf.desc).map (fun d => d.parameters.length) = some 2 := by decide +kernel
abbrev gX0_left : GG := (RX0, cX0_left, 5, (some .int), "left", [])
theorem hX0_left : yX0_left.cls ≠ "java/lang/invoke/MethodHandle" ∧ yX0_left.cls ≠ "java/lang/invoke/VarHandle" ∧ (parseMethodDescriptor yX0_left.desc).map (fun d => d.parameters.length) = some 1 := by decide +kernel
abbrev gX0_askedAnswers : GG := (RX0, cX0_askedAnswers, 4, (some .int), "askedAnswers", [])
theorem hX0_askedAnswers : yX0_askedAnswers.cls ≠ "java/lang/invoke/MethodHandle" ∧ yX0_askedAnswers.cls ≠ "java/lang/invoke/VarHandle" ∧ (parseMethodDescriptor yX0_askedAnswers.desc).map (fun d => d.parameters.length) = some 1 := by decide +kernel
abbrev gX0_forged : GG := (RX0, cX0_forged, 5, (some .int), "forged", [])
theorem hX0_forged : yX0_forged.cls ≠ "java/lang/invoke/MethodHandle" ∧ yX0_forged.cls ≠ "java/lang/invoke/VarHandle" ∧ (parseMethodDescriptor yX0_forged.desc).map (fun d => d.parameters.length) = some 0 := by decide +kernel
abbrev gX0_beside : GG := (RX0, cX0_beside, 6, (some .int), "beside", [])
theorem hX0_beside : yX0_beside.cls ≠ "java/lang/invoke/MethodHandle" ∧ yX0_beside.cls ≠ "java/lang/invoke/VarHandle" ∧ (parseMethodDescriptor yX0_beside.desc).map (fun d => d.parameters.length) = some 1 := by decide +kernel
abbrev gX0_pairsWith : GG := (RX0, cX0_pairsWith, 12, (some .int), "pairsWith", [])
theorem hX0_pairsWith : yX0_pairsWith.cls ≠ "java/lang/invoke/MethodHandle" ∧ yX0_pairsWith.cls ≠ "java/lang/invoke/VarHandle" ∧ (parseMethodDescriptor yX0_pairsWith.desc).map (fun d => d.parameters.length) = some 2 := by decide +kernel
abbrev gX0_habit : GG := (RX0, cX0_habit, 3, (some .int), "habit", [])
theorem hX0_habit : yX0_habit.cls ≠ "java/lang/invoke/MethodHandle" ∧ yX0_habit.cls ≠ "java/lang/invoke/VarHandle" ∧ (parseMethodDescriptor yX0_habit.desc).map (fun d => d.parameters.length) = some 0 := by decide +kernel
abbrev gX0_homeOf : GG := (RX0, cX0_homeOf, 4, (some .int), "homeOf", [])
theorem hX0_homeOf : yX0_homeOf.cls ≠ "java/lang/invoke/MethodHandle" ∧ yX0_homeOf.cls ≠ "java/lang/invoke/VarHandle" ∧ (parseMethodDescriptor yX0_homeOf.desc).map (fun d => d.parameters.length) = some 1 := by decide +kernel
abbrev gX0_kindOn : GG := (RX0, cX0_kindOn, 5, (some .int), "kindOn", [])
theorem hX0_kindOn : yX0_kindOn.cls ≠ "java/lang/invoke/MethodHandle" ∧ yX0_kindOn.cls ≠ "java/lang/invoke/VarHandle" ∧ (parseMethodDescriptor yX0_kindOn.desc).map (fun d => d.parameters.length) = some 2 := by decide +kernel
abbrev gX0_order : GG := (RX0, cX0_order, 3, (some .int), "order", [])
theorem hX0_order : yX0_order.cls ≠ "java/lang/invoke/MethodHandle" ∧ yX0_order.cls ≠ "java/lang/invoke/VarHandle" ∧ (parseMethodDescriptor yX0_order.desc).map (fun d => d.parameters.length) = some 0 := by decide +kernel
abbrev gX0_staysOn : GG := (RX0, cX0_staysOn, 5, (some .int), "staysOn", [])
theorem hX0_staysOn : yX0_staysOn.cls ≠ "java/lang/invoke/MethodHandle" ∧ yX0_staysOn.cls ≠ "java/lang/invoke/VarHandle" ∧ (parseMethodDescriptor yX0_staysOn.desc).map (fun d => d.parameters.length) = some 2 := by decide +kernel
abbrev gX0_byAge : GG := (RX0, cX0_byAge, 6, (some .int), "byAge", [])
theorem hX0_byAge : yX0_byAge.cls ≠ "java/lang/invoke/MethodHandle" ∧ yX0_byAge.cls ≠ "java/lang/invoke/VarHandle" ∧ (parseMethodDescriptor yX0_byAge.desc).map (fun d => d.parameters.length) = some 1 := by decide +kernel
abbrev gX0_lots : GG := (RX0, cX0_lots, 10, (some .int), "lots", [])
theorem hX0_lots : yX0_lots.cls ≠ "java/lang/invoke/MethodHandle" ∧ yX0_lots.cls ≠ "java/lang/invoke/VarHandle" ∧ (parseMethodDescriptor yX0_lots.desc).map (fun d => d.parameters.length) = some 2 := by decide +kernel
abbrev gX0_asked : GG := (RX0, cX0_asked, 1, (some .int), "asked", [])
theorem hX0_asked : yX0_asked.cls ≠ "java/lang/invoke/MethodHandle" ∧ yX0_asked.cls ≠ "java/lang/invoke/VarHandle" ∧ (parseMethodDescriptor yX0_asked.desc).map (fun d => d.parameters.length) = some 0 := by decide +kernel
abbrev gX0_upper : GG := (RX0, cX0_upper, 1, (some .long), "upper", [])
theorem hX0_upper : yX0_upper.cls ≠ "java/lang/invoke/MethodHandle" ∧ yX0_upper.cls ≠ "java/lang/invoke/VarHandle" ∧ (parseMethodDescriptor yX0_upper.desc).map (fun d => d.parameters.length) = some 0 := by decide +kernel
abbrev gX0_lower : GG := (RX0, cX0_lower, 1, (some .long), "lower", [])
theorem hX0_lower : yX0_lower.cls ≠ "java/lang/invoke/MethodHandle" ∧ yX0_lower.cls ≠ "java/lang/invoke/VarHandle" ∧ (parseMethodDescriptor yX0_lower.desc).map (fun d => d.parameters.length) = some 0 := by decide +kernel
abbrev gX0_count : GG := (RX0, cX0_count, 2, (some .int), "count", [])
theorem hX0_count : yX0_count.cls ≠ "java/lang/invoke/MethodHandle" ∧ yX0_count.cls ≠ "java/lang/invoke/VarHandle" ∧ (parseMethodDescriptor yX0_count.desc).map (fun d => d.parameters.length) = some 1 := by decide +kernel
abbrev gX0_countOf : GG := (RX0, cX0_countOf, 2, (some .int), "countOf", [])
theorem hX0_countOf : yX0_countOf.cls ≠ "java/lang/invoke/MethodHandle" ∧ yX0_countOf.cls ≠ "java/lang/invoke/VarHandle" ∧ (parseMethodDescriptor yX0_countOf.desc).map (fun d => d.parameters.length) = some 1 := by decide +kernel
abbrev gX0_freeQuestions : GG := (RX0, cX0_freeQuestions, 3, (some .int), "freeQuestions", [])
theorem hX0_freeQuestions : yX0_freeQuestions.cls ≠ "java/lang/invoke/MethodHandle" ∧ yX0_freeQuestions.cls ≠ "java/lang/invoke/VarHandle" ∧ (parseMethodDescriptor yX0_freeQuestions.desc).map (fun d => d.parameters.length) = some 0 := by decide +kernel
abbrev gX0_cardsOf : GG := (RX0, cX0_cardsOf, 4, (some .int), "cardsOf", [])
theorem hX0_cardsOf : yX0_cardsOf.cls ≠ "java/lang/invoke/MethodHandle" ∧ yX0_cardsOf.cls ≠ "java/lang/invoke/VarHandle" ∧ (parseMethodDescriptor yX0_cardsOf.desc).map (fun d => d.parameters.length) = some 1 := by decide +kernel
abbrev gX0_thereOf : GG := (RX0, cX0_thereOf, 4, (some .int), "thereOf", [])
theorem hX0_thereOf : yX0_thereOf.cls ≠ "java/lang/invoke/MethodHandle" ∧ yX0_thereOf.cls ≠ "java/lang/invoke/VarHandle" ∧ (parseMethodDescriptor yX0_thereOf.desc).map (fun d => d.parameters.length) = some 1 := by decide +kernel
abbrev gX0_finding : GG := (RX0, cX0_finding, 1, (some .int), "finding", [])
theorem hX0_finding : yX0_finding.cls ≠ "java/lang/invoke/MethodHandle" ∧ yX0_finding.cls ≠ "java/lang/invoke/VarHandle" ∧ (parseMethodDescriptor yX0_finding.desc).map (fun d => d.parameters.length) = some 0 := by decide +kernel
abbrev gX0_findings : GG := (RX0, cX0_findings, 2, (some .int), "findings", [])
theorem hX0_findings : yX0_findings.cls ≠ "java/lang/invoke/MethodHandle" ∧ yX0_findings.cls ≠ "java/lang/invoke/VarHandle" ∧ (parseMethodDescriptor yX0_findings.desc).map (fun d => d.parameters.length) = some 1 := by decide +kernel
abbrev gX0_digest : GG := (RX0, cX0_digest, 7, (some .long), "digest", [])
theorem hX0_digest : yX0_digest.cls ≠ "java/lang/invoke/MethodHandle" ∧ yX0_digest.cls ≠ "java/lang/invoke/VarHandle" ∧ (parseMethodDescriptor yX0_digest.desc).map (fun d => d.parameters.length) = some 0 := by decide +kernel
abbrev gX0_mix : GG := (RX0, cX0_mix, 2, none, "mix", [])
theorem hX0_mix : yX0_mix.cls ≠ "java/lang/invoke/MethodHandle" ∧ yX0_mix.cls ≠ "java/lang/invoke/VarHandle" ∧ (parseMethodDescriptor yX0_mix.desc).map (fun d => d.parameters.length) = some 1 := by decide +kernel
abbrev gX0_mixLibrary : GG := (RX0, cX0_mixLibrary, 5, none, "mixLibrary", [])
theorem hX0_mixLibrary : yX0_mixLibrary.cls ≠ "java/lang/invoke/MethodHandle" ∧ yX0_mixLibrary.cls ≠ "java/lang/invoke/VarHandle" ∧ (parseMethodDescriptor yX0_mixLibrary.desc).map (fun d => d.parameters.length) = some 0 := by decide +kernel
abbrev gX1_init : GG := (RX1, cX1_init, 2, none, "<init>", [])
theorem hX1_init : yX1_init.cls ≠ "java/lang/invoke/MethodHandle" ∧ yX1_init.cls ≠ "java/lang/invoke/VarHandle" ∧ (parseMethodDescriptor yX1_init.desc).map (fun d => d.parameters.length) = some 0 := by decide +kernel
abbrev gX1_row : GG := (RX1, cX1_row, 4, (some .int), "row", [])
theorem hX1_row : yX1_row.cls ≠ "java/lang/invoke/MethodHandle" ∧ yX1_row.cls ≠ "java/lang/invoke/VarHandle" ∧ (parseMethodDescriptor yX1_row.desc).map (fun d => d.parameters.length) = some 2 := by decide +kernel
abbrev gX1_isRow : GG := (RX1, cX1_isRow, 1, (some .boolean), "isRow", [])
theorem hX1_isRow : yX1_isRow.cls ≠ "java/lang/invoke/MethodHandle" ∧ yX1_isRow.cls ≠ "java/lang/invoke/VarHandle" ∧ (parseMethodDescriptor yX1_isRow.desc).map (fun d => d.parameters.length) = some 1 := by decide +kernel
abbrev gX1_in : GG := (RX1, cX1_in, 6, (some .boolean), "in", [])
theorem hX1_in : yX1_in.cls ≠ "java/lang/invoke/MethodHandle" ∧ yX1_in.cls ≠ "java/lang/invoke/VarHandle" ∧ (parseMethodDescriptor yX1_in.desc).map (fun d => d.parameters.length) = some 3 := by decide +kernel
abbrev gX1_found : GG := (RX1, cX1_found, 2, (some .int), "found", [])
theorem hX1_found : yX1_found.cls ≠ "java/lang/invoke/MethodHandle" ∧ yX1_found.cls ≠ "java/lang/invoke/VarHandle" ∧ (parseMethodDescriptor yX1_found.desc).map (fun d => d.parameters.length) = some 1 := by decide +kernel
abbrev gX1_lay : GG := (RX1, cX1_lay, 5, (some .int), "lay", [])
theorem hX1_lay : yX1_lay.cls ≠ "java/lang/invoke/MethodHandle" ∧ yX1_lay.cls ≠ "java/lang/invoke/VarHandle" ∧ (parseMethodDescriptor yX1_lay.desc).map (fun d => d.parameters.length) = some 3 := by decide +kernel
abbrev gX1_tell : GG := (RX1, cX1_tell, 2, (some .int), "tell", [])
theorem hX1_tell : yX1_tell.cls ≠ "java/lang/invoke/MethodHandle" ∧ yX1_tell.cls ≠ "java/lang/invoke/VarHandle" ∧ (parseMethodDescriptor yX1_tell.desc).map (fun d => d.parameters.length) = some 1 := by decide +kernel
abbrev gX1_at : GG := (RX1, cX1_at, 3, (some .int), "at", [])
theorem hX1_at : yX1_at.cls ≠ "java/lang/invoke/MethodHandle" ∧ yX1_at.cls ≠ "java/lang/invoke/VarHandle" ∧ (parseMethodDescriptor yX1_at.desc).map (fun d => d.parameters.length) = some 2 := by decide +kernel
abbrev gX1_tear : GG := (RX1, cX1_tear, 2, (some .int), "tear", [])
theorem hX1_tear : yX1_tear.cls ≠ "java/lang/invoke/MethodHandle" ∧ yX1_tear.cls ≠ "java/lang/invoke/VarHandle" ∧ (parseMethodDescriptor yX1_tear.desc).map (fun d => d.parameters.length) = some 1 := by decide +kernel
abbrev gX1_copy : GG := (RX1, cX1_copy, 8, (some .int), "copy", [])
theorem hX1_copy : yX1_copy.cls ≠ "java/lang/invoke/MethodHandle" ∧ yX1_copy.cls ≠ "java/lang/invoke/VarHandle" ∧ (parseMethodDescriptor yX1_copy.desc).map (fun d => d.parameters.length) = some 5 := by decide +kernel
abbrev gX1_mean : GG := (RX1, cX1_mean, 5, (some .int), "mean", [])
theorem hX1_mean : yX1_mean.cls ≠ "java/lang/invoke/MethodHandle" ∧ yX1_mean.cls ≠ "java/lang/invoke/VarHandle" ∧ (parseMethodDescriptor yX1_mean.desc).map (fun d => d.parameters.length) = some 1 := by decide +kernel
abbrev gX1_text : GG := (RX1, cX1_text, 4, (some .int), "text", [])
theorem hX1_text : yX1_text.cls ≠ "java/lang/invoke/MethodHandle" ∧ yX1_text.cls ≠ "java/lang/invoke/VarHandle" ∧ (parseMethodDescriptor yX1_text.desc).map (fun d => d.parameters.length) = some 2 := by decide +kernel
abbrev gX1_isText : GG := (RX1, cX1_isText, 1, (some .boolean), "isText", [])
theorem hX1_isText : yX1_isText.cls ≠ "java/lang/invoke/MethodHandle" ∧ yX1_isText.cls ≠ "java/lang/invoke/VarHandle" ∧ (parseMethodDescriptor yX1_isText.desc).map (fun d => d.parameters.length) = some 1 := by decide +kernel
abbrev gX1_put : GG := (RX1, cX1_put, 5, (some .int), "put", [])
theorem hX1_put : yX1_put.cls ≠ "java/lang/invoke/MethodHandle" ∧ yX1_put.cls ≠ "java/lang/invoke/VarHandle" ∧ (parseMethodDescriptor yX1_put.desc).map (fun d => d.parameters.length) = some 3 := by decide +kernel
abbrev gX1_fault : GG := (RX1, cX1_fault, 2, (some .int), "fault", [])
theorem hX1_fault : yX1_fault.cls ≠ "java/lang/invoke/MethodHandle" ∧ yX1_fault.cls ≠ "java/lang/invoke/VarHandle" ∧ (parseMethodDescriptor yX1_fault.desc).map (fun d => d.parameters.length) = some 1 := by decide +kernel
abbrev gX1_reads : GG := (RX1, cX1_reads, 3, (some .int), "reads", [])
theorem hX1_reads : yX1_reads.cls ≠ "java/lang/invoke/MethodHandle" ∧ yX1_reads.cls ≠ "java/lang/invoke/VarHandle" ∧ (parseMethodDescriptor yX1_reads.desc).map (fun d => d.parameters.length) = some 1 := by decide +kernel
abbrev gX1_byteAt : GG := (RX1, cX1_byteAt, 2, (some .int), "byteAt", [])
theorem hX1_byteAt : yX1_byteAt.cls ≠ "java/lang/invoke/MethodHandle" ∧ yX1_byteAt.cls ≠ "java/lang/invoke/VarHandle" ∧ (parseMethodDescriptor yX1_byteAt.desc).map (fun d => d.parameters.length) = some 1 := by decide +kernel
abbrev gX1_takesQuestion : GG := (RX1, cX1_takesQuestion, 3, (some .boolean), "takesQuestion", [])
theorem hX1_takesQuestion : yX1_takesQuestion.cls ≠ "java/lang/invoke/MethodHandle" ∧ yX1_takesQuestion.cls ≠ "java/lang/invoke/VarHandle" ∧ (parseMethodDescriptor yX1_takesQuestion.desc).map (fun d => d.parameters.length) = some 1 := by decide +kernel
abbrev gX1_takes : GG := (RX1, cX1_takes, 6, (some .boolean), "takes", [])
theorem hX1_takes : yX1_takes.cls ≠ "java/lang/invoke/MethodHandle" ∧ yX1_takes.cls ≠ "java/lang/invoke/VarHandle" ∧ (parseMethodDescriptor yX1_takes.desc).map (fun d => d.parameters.length) = some 4 := by decide +kernel
abbrev gX1_takesCard : GG := (RX1, cX1_takesCard, 4, (some .boolean), "takesCard", [])
theorem hX1_takesCard : yX1_takesCard.cls ≠ "java/lang/invoke/MethodHandle" ∧ yX1_takesCard.cls ≠ "java/lang/invoke/VarHandle" ∧ (parseMethodDescriptor yX1_takesCard.desc).map (fun d => d.parameters.length) = some 1 := by decide +kernel
abbrev gX1_kindOf : GG := (RX1, cX1_kindOf, 1, (some .int), "kindOf", [])
theorem hX1_kindOf : yX1_kindOf.cls ≠ "java/lang/invoke/MethodHandle" ∧ yX1_kindOf.cls ≠ "java/lang/invoke/VarHandle" ∧ (parseMethodDescriptor yX1_kindOf.desc).map (fun d => d.parameters.length) = some 1 := by decide +kernel
abbrev gX1_library : GG := (RX1, cX1_library, 3, (some .int), "library", [])
theorem hX1_library : yX1_library.cls ≠ "java/lang/invoke/MethodHandle" ∧ yX1_library.cls ≠ "java/lang/invoke/VarHandle" ∧ (parseMethodDescriptor yX1_library.desc).map (fun d => d.parameters.length) = some 1 := by decide +kernel
abbrev gX1_copies : GG := (RX1, cX1_copies, 5, none, "copies", [])
theorem hX1_copies : yX1_copies.cls ≠ "java/lang/invoke/MethodHandle" ∧ yX1_copies.cls ≠ "java/lang/invoke/VarHandle" ∧ (parseMethodDescriptor yX1_copies.desc).map (fun d => d.parameters.length) = some 4 := by decide +kernel
abbrev gX1_card : GG := (RX1, cX1_card, 3, (some .int), "card", [])
theorem hX1_card : yX1_card.cls ≠ "java/lang/invoke/MethodHandle" ∧ yX1_card.cls ≠ "java/lang/invoke/VarHandle" ∧ (parseMethodDescriptor yX1_card.desc).map (fun d => d.parameters.length) = some 2 := by decide +kernel
abbrev gX1_isCard : GG := (RX1, cX1_isCard, 2, (some .boolean), "isCard", [])
theorem hX1_isCard : yX1_isCard.cls ≠ "java/lang/invoke/MethodHandle" ∧ yX1_isCard.cls ≠ "java/lang/invoke/VarHandle" ∧ (parseMethodDescriptor yX1_isCard.desc).map (fun d => d.parameters.length) = some 1 := by decide +kernel
abbrev gX1_toldCard : GG := (RX1, cX1_toldCard, 3, (some .int), "toldCard", [])
theorem hX1_toldCard : yX1_toldCard.cls ≠ "java/lang/invoke/MethodHandle" ∧ yX1_toldCard.cls ≠ "java/lang/invoke/VarHandle" ∧ (parseMethodDescriptor yX1_toldCard.desc).map (fun d => d.parameters.length) = some 2 := by decide +kernel
abbrev gX1_means : GG := (RX1, cX1_means, 3, (some .int), "means", [])
theorem hX1_means : yX1_means.cls ≠ "java/lang/invoke/MethodHandle" ∧ yX1_means.cls ≠ "java/lang/invoke/VarHandle" ∧ (parseMethodDescriptor yX1_means.desc).map (fun d => d.parameters.length) = some 1 := by decide +kernel
abbrev gX1_answers : GG := (RX1, cX1_answers, 4, (some .int), "answers", [])
theorem hX1_answers : yX1_answers.cls ≠ "java/lang/invoke/MethodHandle" ∧ yX1_answers.cls ≠ "java/lang/invoke/VarHandle" ∧ (parseMethodDescriptor yX1_answers.desc).map (fun d => d.parameters.length) = some 1 := by decide +kernel
abbrev gX1_question : GG := (RX1, cX1_question, 3, (some .int), "question", [])
theorem hX1_question : yX1_question.cls ≠ "java/lang/invoke/MethodHandle" ∧ yX1_question.cls ≠ "java/lang/invoke/VarHandle" ∧ (parseMethodDescriptor yX1_question.desc).map (fun d => d.parameters.length) = some 2 := by decide +kernel
abbrev gX1_isQuestion : GG := (RX1, cX1_isQuestion, 2, (some .boolean), "isQuestion", [])
theorem hX1_isQuestion : yX1_isQuestion.cls ≠ "java/lang/invoke/MethodHandle" ∧ yX1_isQuestion.cls ≠ "java/lang/invoke/VarHandle" ∧ (parseMethodDescriptor yX1_isQuestion.desc).map (fun d => d.parameters.length) = some 1 := by decide +kernel
abbrev gX1_mark : GG := (RX1, cX1_mark, 7, (some .int), "mark", [])
theorem hX1_mark : yX1_mark.cls ≠ "java/lang/invoke/MethodHandle" ∧ yX1_mark.cls ≠ "java/lang/invoke/VarHandle" ∧ (parseMethodDescriptor yX1_mark.desc).map (fun d => d.parameters.length) = some 2 := by decide +kernel
abbrev gX1_isOf : GG := (RX1, cX1_isOf, 2, (some .boolean), "isOf", [])
theorem hX1_isOf : yX1_isOf.cls ≠ "java/lang/invoke/MethodHandle" ∧ yX1_isOf.cls ≠ "java/lang/invoke/VarHandle" ∧ (parseMethodDescriptor yX1_isOf.desc).map (fun d => d.parameters.length) = some 2 := by decide +kernel
abbrev gX1_isFit : GG := (RX1, cX1_isFit, 3, (some .boolean), "isFit", [])
theorem hX1_isFit : yX1_isFit.cls ≠ "java/lang/invoke/MethodHandle" ∧ yX1_isFit.cls ≠ "java/lang/invoke/VarHandle" ∧ (parseMethodDescriptor yX1_isFit.desc).map (fun d => d.parameters.length) = some 2 := by decide +kernel
abbrev gX1_suits : GG := (RX1, cX1_suits, 5, (some .boolean), "suits", [])
theorem hX1_suits : yX1_suits.cls ≠ "java/lang/invoke/MethodHandle" ∧ yX1_suits.cls ≠ "java/lang/invoke/VarHandle" ∧ (parseMethodDescriptor yX1_suits.desc).map (fun d => d.parameters.length) = some 4 := by decide +kernel
abbrev gX1_shelve : GG := (RX1, cX1_shelve, 3, (some .int), "shelve", [])
theorem hX1_shelve : yX1_shelve.cls ≠ "java/lang/invoke/MethodHandle" ∧ yX1_shelve.cls ≠ "java/lang/invoke/VarHandle" ∧ (parseMethodDescriptor yX1_shelve.desc).map (fun d => d.parameters.length) = some 2 := by decide +kernel
abbrev gX1_puts : GG := (RX1, cX1_puts, 4, (some .int), "puts", [])
theorem hX1_puts : yX1_puts.cls ≠ "java/lang/invoke/MethodHandle" ∧ yX1_puts.cls ≠ "java/lang/invoke/VarHandle" ∧ (parseMethodDescriptor yX1_puts.desc).map (fun d => d.parameters.length) = some 2 := by decide +kernel
abbrev gX1_age : GG := (RX1, cX1_age, 3, (some .int), "age", [])
theorem hX1_age : yX1_age.cls ≠ "java/lang/invoke/MethodHandle" ∧ yX1_age.cls ≠ "java/lang/invoke/VarHandle" ∧ (parseMethodDescriptor yX1_age.desc).map (fun d => d.parameters.length) = some 2 := by decide +kernel
abbrev gX1_truth : GG := (RX1, cX1_truth, 3, (some .int), "truth", [])
theorem hX1_truth : yX1_truth.cls ≠ "java/lang/invoke/MethodHandle" ∧ yX1_truth.cls ≠ "java/lang/invoke/VarHandle" ∧ (parseMethodDescriptor yX1_truth.desc).map (fun d => d.parameters.length) = some 2 := by decide +kernel
abbrev gX1_fits : GG := (RX1, cX1_fits, 4, (some .int), "fits", [])
theorem hX1_fits : yX1_fits.cls ≠ "java/lang/invoke/MethodHandle" ∧ yX1_fits.cls ≠ "java/lang/invoke/VarHandle" ∧ (parseMethodDescriptor yX1_fits.desc).map (fun d => d.parameters.length) = some 1 := by decide +kernel
abbrev gX1_take : GG := (RX1, cX1_take, 3, (some .int), "take", [])
theorem hX1_take : yX1_take.cls ≠ "java/lang/invoke/MethodHandle" ∧ yX1_take.cls ≠ "java/lang/invoke/VarHandle" ∧ (parseMethodDescriptor yX1_take.desc).map (fun d => d.parameters.length) = some 2 := by decide +kernel
abbrev gX1_isFree : GG := (RX1, cX1_isFree, 2, (some .boolean), "isFree", [])
theorem hX1_isFree : yX1_isFree.cls ≠ "java/lang/invoke/MethodHandle" ∧ yX1_isFree.cls ≠ "java/lang/invoke/VarHandle" ∧ (parseMethodDescriptor yX1_isFree.desc).map (fun d => d.parameters.length) = some 1 := by decide +kernel
abbrev gX1_isFreeCard : GG := (RX1, cX1_isFreeCard, 2, (some .boolean), "isFreeCard", [])
theorem hX1_isFreeCard : yX1_isFreeCard.cls ≠ "java/lang/invoke/MethodHandle" ∧ yX1_isFreeCard.cls ≠ "java/lang/invoke/VarHandle" ∧ (parseMethodDescriptor yX1_isFreeCard.desc).map (fun d => d.parameters.length) = some 1 := by decide +kernel
abbrev gX1_takesIt : GG := (RX1, cX1_takesIt, 5, none, "takesIt", [])
theorem hX1_takesIt : yX1_takesIt.cls ≠ "java/lang/invoke/MethodHandle" ∧ yX1_takesIt.cls ≠ "java/lang/invoke/VarHandle" ∧ (parseMethodDescriptor yX1_takesIt.desc).map (fun d => d.parameters.length) = some 2 := by decide +kernel
abbrev gX1_stands : GG := (RX1, cX1_stands, 2, (some .int), "stands", [])
theorem hX1_stands : yX1_stands.cls ≠ "java/lang/invoke/MethodHandle" ∧ yX1_stands.cls ≠ "java/lang/invoke/VarHandle" ∧ (parseMethodDescriptor yX1_stands.desc).map (fun d => d.parameters.length) = some 1 := by decide +kernel
abbrev gX1_bring : GG := (RX1, cX1_bring, 2, (some .int), "bring", [])
theorem hX1_bring : yX1_bring.cls ≠ "java/lang/invoke/MethodHandle" ∧ yX1_bring.cls ≠ "java/lang/invoke/VarHandle" ∧ (parseMethodDescriptor yX1_bring.desc).map (fun d => d.parameters.length) = some 1 := by decide +kernel
abbrev gX1_undo : GG := (RX1, cX1_undo, 4, (some .int), "undo", [])
theorem hX1_undo : yX1_undo.cls ≠ "java/lang/invoke/MethodHandle" ∧ yX1_undo.cls ≠ "java/lang/invoke/VarHandle" ∧ (parseMethodDescriptor yX1_undo.desc).map (fun d => d.parameters.length) = some 1 := by decide +kernel
abbrev gX1_right : GG := (RX1, cX1_right, 2, (some .int), "right", [])
theorem hX1_right : yX1_right.cls ≠ "java/lang/invoke/MethodHandle" ∧ yX1_right.cls ≠ "java/lang/invoke/VarHandle" ∧ (parseMethodDescriptor yX1_right.desc).map (fun d => d.parameters.length) = some 0 := by decide +kernel
abbrev gX1_standing : GG := (RX1, cX1_standing, 4, (some .int), "standing", [])
theorem hX1_standing : yX1_standing.cls ≠ "java/lang/invoke/MethodHandle" ∧ yX1_standing.cls ≠ "java/lang/invoke/VarHandle" ∧ (parseMethodDescriptor yX1_standing.desc).map (fun d => d.parameters.length) = some 1 := by decide +kernel
abbrev gX1_keep : GG := (RX1, cX1_keep, 2, (some .int), "keep", [])
theorem hX1_keep : yX1_keep.cls ≠ "java/lang/invoke/MethodHandle" ∧ yX1_keep.cls ≠ "java/lang/invoke/VarHandle" ∧ (parseMethodDescriptor yX1_keep.desc).map (fun d => d.parameters.length) = some 1 := by decide +kernel
abbrev gX1_on : GG := (RX1, cX1_on, 2, (some .int), "on", [])
theorem hX1_on : yX1_on.cls ≠ "java/lang/invoke/MethodHandle" ∧ yX1_on.cls ≠ "java/lang/invoke/VarHandle" ∧ (parseMethodDescriptor yX1_on.desc).map (fun d => d.parameters.length) = some 1 := by decide +kernel
abbrev gX1_match : GG := (RX1, cX1_match, 2, (some .int), "match", [])
theorem hX1_match : yX1_match.cls ≠ "java/lang/invoke/MethodHandle" ∧ yX1_match.cls ≠ "java/lang/invoke/VarHandle" ∧ (parseMethodDescriptor yX1_match.desc).map (fun d => d.parameters.length) = some 1 := by decide +kernel
abbrev gX1_layMatchings : GG := (RX1, cX1_layMatchings, 9, none, "layMatchings", [])
theorem hX1_layMatchings : yX1_layMatchings.cls ≠ "java/lang/invoke/MethodHandle" ∧ yX1_layMatchings.cls ≠ "java/lang/invoke/VarHandle" ∧ (parseMethodDescriptor yX1_layMatchings.desc).map (fun d => d.parameters.length) = some 1 := by decide +kernel
abbrev gX1_counts : GG := (RX1, cX1_counts, 4, none, "counts", [])
theorem hX1_counts : yX1_counts.cls ≠ "java/lang/invoke/MethodHandle" ∧ yX1_counts.cls ≠ "java/lang/invoke/VarHandle" ∧ (parseMethodDescriptor yX1_counts.desc).map (fun d => d.parameters.length) = some 1 := by decide +kernel
abbrev gX1_mayMatch : GG := (RX1, cX1_mayMatch, 3, (some .boolean), "mayMatch", [])
theorem hX1_mayMatch : yX1_mayMatch.cls ≠ "java/lang/invoke/MethodHandle" ∧ yX1_mayMatch.cls ≠ "java/lang/invoke/VarHandle" ∧ (parseMethodDescriptor yX1_mayMatch.desc).map (fun d => d.parameters.length) = some 2 := by decide +kernel
abbrev gX1_laid : GG := (RX1, cX1_laid, 4, (some .int), "laid", [])
theorem hX1_laid : yX1_laid.cls ≠ "java/lang/invoke/MethodHandle" ∧ yX1_laid.cls ≠ "java/lang/invoke/VarHandle" ∧ (parseMethodDescriptor yX1_laid.desc).map (fun d => d.parameters.length) = some 1 := by decide +kernel
abbrev gX1_wished : GG := (RX1, cX1_wished, 2, (some .int), "wished", [])
theorem hX1_wished : yX1_wished.cls ≠ "java/lang/invoke/MethodHandle" ∧ yX1_wished.cls ≠ "java/lang/invoke/VarHandle" ∧ (parseMethodDescriptor yX1_wished.desc).map (fun d => d.parameters.length) = some 1 := by decide +kernel
abbrev gX1_fullest : GG := (RX1, cX1_fullest, 3, (some .int), "fullest", [])
theorem hX1_fullest : yX1_fullest.cls ≠ "java/lang/invoke/MethodHandle" ∧ yX1_fullest.cls ≠ "java/lang/invoke/VarHandle" ∧ (parseMethodDescriptor yX1_fullest.desc).map (fun d => d.parameters.length) = some 0 := by decide +kernel
abbrev gX1_may : GG := (RX1, cX1_may, 4, (some .int), "may", [])
theorem hX1_may : yX1_may.cls ≠ "java/lang/invoke/MethodHandle" ∧ yX1_may.cls ≠ "java/lang/invoke/VarHandle" ∧ (parseMethodDescriptor yX1_may.desc).map (fun d => d.parameters.length) = some 1 := by decide +kernel
abbrev gX1_sure : GG := (RX1, cX1_sure, 4, (some .int), "sure", [])
theorem hX1_sure : yX1_sure.cls ≠ "java/lang/invoke/MethodHandle" ∧ yX1_sure.cls ≠ "java/lang/invoke/VarHandle" ∧ (parseMethodDescriptor yX1_sure.desc).map (fun d => d.parameters.length) = some 1 := by decide +kernel
abbrev gX1_test : GG := (RX1, cX1_test, 5, (some .int), "test", [])
theorem hX1_test : yX1_test.cls ≠ "java/lang/invoke/MethodHandle" ∧ yX1_test.cls ≠ "java/lang/invoke/VarHandle" ∧ (parseMethodDescriptor yX1_test.desc).map (fun d => d.parameters.length) = some 0 := by decide +kernel
abbrev gX1_odds : GG := (RX1, cX1_odds, 6, (some .int), "odds", [])
theorem hX1_odds : yX1_odds.cls ≠ "java/lang/invoke/MethodHandle" ∧ yX1_odds.cls ≠ "java/lang/invoke/VarHandle" ∧ (parseMethodDescriptor yX1_odds.desc).map (fun d => d.parameters.length) = some 2 := by decide +kernel
abbrev gX1_worlds : GG := (RX1, cX1_worlds, 6, (some .int), "worlds", [])
theorem hX1_worlds : yX1_worlds.cls ≠ "java/lang/invoke/MethodHandle" ∧ yX1_worlds.cls ≠ "java/lang/invoke/VarHandle" ∧ (parseMethodDescriptor yX1_worlds.desc).map (fun d => d.parameters.length) = some 0 := by decide +kernel
abbrev gX1_never : GG := (RX1, cX1_never, 5, (some .int), "never", [])
theorem hX1_never : yX1_never.cls ≠ "java/lang/invoke/MethodHandle" ∧ yX1_never.cls ≠ "java/lang/invoke/VarHandle" ∧ (parseMethodDescriptor yX1_never.desc).map (fun d => d.parameters.length) = some 0 := by decide +kernel
abbrev gX1_parts : GG := (RX1, cX1_parts, 10, (some .int), "parts", [])
theorem hX1_parts : yX1_parts.cls ≠ "java/lang/invoke/MethodHandle" ∧ yX1_parts.cls ≠ "java/lang/invoke/VarHandle" ∧ (parseMethodDescriptor yX1_parts.desc).map (fun d => d.parameters.length) = some 0 := by decide +kernel
abbrev gX1_manyFit : GG := (RX1, cX1_manyFit, 6, (some .int), "manyFit", [])
theorem hX1_manyFit : yX1_manyFit.cls ≠ "java/lang/invoke/MethodHandle" ∧ yX1_manyFit.cls ≠ "java/lang/invoke/VarHandle" ∧ (parseMethodDescriptor yX1_manyFit.desc).map (fun d => d.parameters.length) = some 3 := by decide +kernel
abbrev gX1_finds : GG := (RX1, cX1_finds, 9, (some .int), "finds", [])
theorem hX1_finds : yX1_finds.cls ≠ "java/lang/invoke/MethodHandle" ∧ yX1_finds.cls ≠ "java/lang/invoke/VarHandle" ∧ (parseMethodDescriptor yX1_finds.desc).map (fun d => d.parameters.length) = some 1 := by decide +kernel
abbrev gX1_isOne : GG := (RX1, cX1_isOne, 1, (some .boolean), "isOne", [])
theorem hX1_isOne : yX1_isOne.cls ≠ "java/lang/invoke/MethodHandle" ∧ yX1_isOne.cls ≠ "java/lang/invoke/VarHandle" ∧ (parseMethodDescriptor yX1_isOne.desc).map (fun d => d.parameters.length) = some 1 := by decide +kernel
abbrev gX1_left : GG := (RX1, cX1_left, 6, (some .int), "left", [])
theorem hX1_left : yX1_left.cls ≠ "java/lang/invoke/MethodHandle" ∧ yX1_left.cls ≠ "java/lang/invoke/VarHandle" ∧ (parseMethodDescriptor yX1_left.desc).map (fun d => d.parameters.length) = some 1 := by decide +kernel
abbrev gX1_forged : GG := (RX1, cX1_forged, 6, (some .int), "forged", [])
theorem hX1_forged : yX1_forged.cls ≠ "java/lang/invoke/MethodHandle" ∧ yX1_forged.cls ≠ "java/lang/invoke/VarHandle" ∧ (parseMethodDescriptor yX1_forged.desc).map (fun d => d.parameters.length) = some 0 := by decide +kernel
abbrev gX1_beside : GG := (RX1, cX1_beside, 6, (some .int), "beside", [])
theorem hX1_beside : yX1_beside.cls ≠ "java/lang/invoke/MethodHandle" ∧ yX1_beside.cls ≠ "java/lang/invoke/VarHandle" ∧ (parseMethodDescriptor yX1_beside.desc).map (fun d => d.parameters.length) = some 1 := by decide +kernel
abbrev gX1_manyThere : GG := (RX1, cX1_manyThere, 7, (some .int), "manyThere", [])
theorem hX1_manyThere : yX1_manyThere.cls ≠ "java/lang/invoke/MethodHandle" ∧ yX1_manyThere.cls ≠ "java/lang/invoke/VarHandle" ∧ (parseMethodDescriptor yX1_manyThere.desc).map (fun d => d.parameters.length) = some 3 := by decide +kernel
abbrev gX1_manyHere : GG := (RX1, cX1_manyHere, 5, (some .int), "manyHere", [])
theorem hX1_manyHere : yX1_manyHere.cls ≠ "java/lang/invoke/MethodHandle" ∧ yX1_manyHere.cls ≠ "java/lang/invoke/VarHandle" ∧ (parseMethodDescriptor yX1_manyHere.desc).map (fun d => d.parameters.length) = some 2 := by decide +kernel
abbrev gX1_lesser : GG := (RX1, cX1_lesser, 2, (some .int), "lesser", [])
theorem hX1_lesser : yX1_lesser.cls ≠ "java/lang/invoke/MethodHandle" ∧ yX1_lesser.cls ≠ "java/lang/invoke/VarHandle" ∧ (parseMethodDescriptor yX1_lesser.desc).map (fun d => d.parameters.length) = some 2 := by decide +kernel
abbrev gX1_habit : GG := (RX1, cX1_habit, 6, (some .int), "habit", [])
theorem hX1_habit : yX1_habit.cls ≠ "java/lang/invoke/MethodHandle" ∧ yX1_habit.cls ≠ "java/lang/invoke/VarHandle" ∧ (parseMethodDescriptor yX1_habit.desc).map (fun d => d.parameters.length) = some 0 := by decide +kernel
abbrev gX1_lying : GG := (RX1, cX1_lying, 5, (some .int), "lying", [])
theorem hX1_lying : yX1_lying.cls ≠ "java/lang/invoke/MethodHandle" ∧ yX1_lying.cls ≠ "java/lang/invoke/VarHandle" ∧ (parseMethodDescriptor yX1_lying.desc).map (fun d => d.parameters.length) = some 2 := by decide +kernel
abbrev gX1_order : GG := (RX1, cX1_order, 9, (some .int), "order", [])
theorem hX1_order : yX1_order.cls ≠ "java/lang/invoke/MethodHandle" ∧ yX1_order.cls ≠ "java/lang/invoke/VarHandle" ∧ (parseMethodDescriptor yX1_order.desc).map (fun d => d.parameters.length) = some 0 := by decide +kernel
abbrev gX1_byAge : GG := (RX1, cX1_byAge, 6, (some .int), "byAge", [])
theorem hX1_byAge : yX1_byAge.cls ≠ "java/lang/invoke/MethodHandle" ∧ yX1_byAge.cls ≠ "java/lang/invoke/VarHandle" ∧ (parseMethodDescriptor yX1_byAge.desc).map (fun d => d.parameters.length) = some 1 := by decide +kernel
abbrev gX1_lots : GG := (RX1, cX1_lots, 11, (some .int), "lots", [])
theorem hX1_lots : yX1_lots.cls ≠ "java/lang/invoke/MethodHandle" ∧ yX1_lots.cls ≠ "java/lang/invoke/VarHandle" ∧ (parseMethodDescriptor yX1_lots.desc).map (fun d => d.parameters.length) = some 2 := by decide +kernel
abbrev gX1_asked : GG := (RX1, cX1_asked, 1, (some .int), "asked", [])
theorem hX1_asked : yX1_asked.cls ≠ "java/lang/invoke/MethodHandle" ∧ yX1_asked.cls ≠ "java/lang/invoke/VarHandle" ∧ (parseMethodDescriptor yX1_asked.desc).map (fun d => d.parameters.length) = some 0 := by decide +kernel
abbrev gX1_upper : GG := (RX1, cX1_upper, 1, (some .long), "upper", [])
theorem hX1_upper : yX1_upper.cls ≠ "java/lang/invoke/MethodHandle" ∧ yX1_upper.cls ≠ "java/lang/invoke/VarHandle" ∧ (parseMethodDescriptor yX1_upper.desc).map (fun d => d.parameters.length) = some 0 := by decide +kernel
abbrev gX1_lower : GG := (RX1, cX1_lower, 1, (some .long), "lower", [])
theorem hX1_lower : yX1_lower.cls ≠ "java/lang/invoke/MethodHandle" ∧ yX1_lower.cls ≠ "java/lang/invoke/VarHandle" ∧ (parseMethodDescriptor yX1_lower.desc).map (fun d => d.parameters.length) = some 0 := by decide +kernel
abbrev gX1_count : GG := (RX1, cX1_count, 2, (some .int), "count", [])
theorem hX1_count : yX1_count.cls ≠ "java/lang/invoke/MethodHandle" ∧ yX1_count.cls ≠ "java/lang/invoke/VarHandle" ∧ (parseMethodDescriptor yX1_count.desc).map (fun d => d.parameters.length) = some 1 := by decide +kernel
abbrev gX1_counted : GG := (RX1, cX1_counted, 4, (some .int), "counted", [])
theorem hX1_counted : yX1_counted.cls ≠ "java/lang/invoke/MethodHandle" ∧ yX1_counted.cls ≠ "java/lang/invoke/VarHandle" ∧ (parseMethodDescriptor yX1_counted.desc).map (fun d => d.parameters.length) = some 1 := by decide +kernel
abbrev gX1_finding : GG := (RX1, cX1_finding, 1, (some .int), "finding", [])
theorem hX1_finding : yX1_finding.cls ≠ "java/lang/invoke/MethodHandle" ∧ yX1_finding.cls ≠ "java/lang/invoke/VarHandle" ∧ (parseMethodDescriptor yX1_finding.desc).map (fun d => d.parameters.length) = some 0 := by decide +kernel
abbrev gX1_findings : GG := (RX1, cX1_findings, 2, (some .int), "findings", [])
theorem hX1_findings : yX1_findings.cls ≠ "java/lang/invoke/MethodHandle" ∧ yX1_findings.cls ≠ "java/lang/invoke/VarHandle" ∧ (parseMethodDescriptor yX1_findings.desc).map (fun d => d.parameters.length) = some 1 := by decide +kernel
abbrev gX1_digest : GG := (RX1, cX1_digest, 5, (some .long), "digest", [])
theorem hX1_digest : yX1_digest.cls ≠ "java/lang/invoke/MethodHandle" ∧ yX1_digest.cls ≠ "java/lang/invoke/VarHandle" ∧ (parseMethodDescriptor yX1_digest.desc).map (fun d => d.parameters.length) = some 0 := by decide +kernel
abbrev gX2_init : GG := (RX2, cX2_init, 5, none, "<init>", [])
theorem hX2_init : yX2_init.cls ≠ "java/lang/invoke/MethodHandle" ∧ yX2_init.cls ≠ "java/lang/invoke/VarHandle" ∧ (parseMethodDescriptor yX2_init.desc).map (fun d => d.parameters.length) = some 4 := by decide +kernel
abbrev gX2_kind : GG := (RX2, cX2_kind, 1, (some .int), "kind", [])
theorem hX2_kind : yX2_kind.cls ≠ "java/lang/invoke/MethodHandle" ∧ yX2_kind.cls ≠ "java/lang/invoke/VarHandle" ∧ (parseMethodDescriptor yX2_kind.desc).map (fun d => d.parameters.length) = some 0 := by decide +kernel
abbrev gX2_says : GG := (RX2, cX2_says, 1, (some .int), "says", [])
theorem hX2_says : yX2_says.cls ≠ "java/lang/invoke/MethodHandle" ∧ yX2_says.cls ≠ "java/lang/invoke/VarHandle" ∧ (parseMethodDescriptor yX2_says.desc).map (fun d => d.parameters.length) = some 0 := by decide +kernel
abbrev gX2_age : GG := (RX2, cX2_age, 1, (some .int), "age", [])
theorem hX2_age : yX2_age.cls ≠ "java/lang/invoke/MethodHandle" ∧ yX2_age.cls ≠ "java/lang/invoke/VarHandle" ∧ (parseMethodDescriptor yX2_age.desc).map (fun d => d.parameters.length) = some 0 := by decide +kernel
abbrev gX2_means : GG := (RX2, cX2_means, 1, (some .int), "means", [])
theorem hX2_means : yX2_means.cls ≠ "java/lang/invoke/MethodHandle" ∧ yX2_means.cls ≠ "java/lang/invoke/VarHandle" ∧ (parseMethodDescriptor yX2_means.desc).map (fun d => d.parameters.length) = some 0 := by decide +kernel
abbrev gX2_is : GG := (RX2, cX2_is, 2, (some .boolean), "is", [])
theorem hX2_is : yX2_is.cls ≠ "java/lang/invoke/MethodHandle" ∧ yX2_is.cls ≠ "java/lang/invoke/VarHandle" ∧ (parseMethodDescriptor yX2_is.desc).map (fun d => d.parameters.length) = some 1 := by decide +kernel
abbrev gX2_number : GG := (RX2, cX2_number, 1, (some .int), "number", [])
theorem hX2_number : yX2_number.cls ≠ "java/lang/invoke/MethodHandle" ∧ yX2_number.cls ≠ "java/lang/invoke/VarHandle" ∧ (parseMethodDescriptor yX2_number.desc).map (fun d => d.parameters.length) = some 0 := by decide +kernel
abbrev gX3_init : GG := (RX3, cX3_init, 5, none, "<init>", [])
theorem hX3_init : yX3_init.cls ≠ "java/lang/invoke/MethodHandle" ∧ yX3_init.cls ≠ "java/lang/invoke/VarHandle" ∧ (parseMethodDescriptor yX3_init.desc).map (fun d => d.parameters.length) = some 4 := by decide +kernel
abbrev gX3_kind : GG := (RX3, cX3_kind, 1, (some .int), "kind", [])
theorem hX3_kind : yX3_kind.cls ≠ "java/lang/invoke/MethodHandle" ∧ yX3_kind.cls ≠ "java/lang/invoke/VarHandle" ∧ (parseMethodDescriptor yX3_kind.desc).map (fun d => d.parameters.length) = some 0 := by decide +kernel
abbrev gX3_means : GG := (RX3, cX3_means, 1, (some .int), "means", [])
theorem hX3_means : yX3_means.cls ≠ "java/lang/invoke/MethodHandle" ∧ yX3_means.cls ≠ "java/lang/invoke/VarHandle" ∧ (parseMethodDescriptor yX3_means.desc).map (fun d => d.parameters.length) = some 0 := by decide +kernel
abbrev gX3_likes : GG := (RX3, cX3_likes, 2, (some .int), "likes", [])
theorem hX3_likes : yX3_likes.cls ≠ "java/lang/invoke/MethodHandle" ∧ yX3_likes.cls ≠ "java/lang/invoke/VarHandle" ∧ (parseMethodDescriptor yX3_likes.desc).map (fun d => d.parameters.length) = some 1 := by decide +kernel
abbrev gX3_is : GG := (RX3, cX3_is, 2, (some .boolean), "is", [])
theorem hX3_is : yX3_is.cls ≠ "java/lang/invoke/MethodHandle" ∧ yX3_is.cls ≠ "java/lang/invoke/VarHandle" ∧ (parseMethodDescriptor yX3_is.desc).map (fun d => d.parameters.length) = some 1 := by decide +kernel
abbrev gX4_init : GG := (RX4, cX4_init, 5, none, "<init>", [])
theorem hX4_init : yX4_init.cls ≠ "java/lang/invoke/MethodHandle" ∧ yX4_init.cls ≠ "java/lang/invoke/VarHandle" ∧ (parseMethodDescriptor yX4_init.desc).map (fun d => d.parameters.length) = some 4 := by decide +kernel
abbrev gX4_kind : GG := (RX4, cX4_kind, 1, (some .int), "kind", [])
theorem hX4_kind : yX4_kind.cls ≠ "java/lang/invoke/MethodHandle" ∧ yX4_kind.cls ≠ "java/lang/invoke/VarHandle" ∧ (parseMethodDescriptor yX4_kind.desc).map (fun d => d.parameters.length) = some 0 := by decide +kernel
abbrev gX4_is : GG := (RX4, cX4_is, 2, (some .boolean), "is", [])
theorem hX4_is : yX4_is.cls ≠ "java/lang/invoke/MethodHandle" ∧ yX4_is.cls ≠ "java/lang/invoke/VarHandle" ∧ (parseMethodDescriptor yX4_is.desc).map (fun d => d.parameters.length) = some 1 := by decide +kernel
abbrev gX4_besides : GG := (RX4, cX4_besides, 2, (some .int), "besides", [])
theorem hX4_besides : yX4_besides.cls ≠ "java/lang/invoke/MethodHandle" ∧ yX4_besides.cls ≠ "java/lang/invoke/VarHandle" ∧ (parseMethodDescriptor yX4_besides.desc).map (fun d => d.parameters.length) = some 1 := by decide +kernel
abbrev gX5_init : GG := (RX5, cX5_init, 5, none, "<init>", [])
theorem hX5_init : yX5_init.cls ≠ "java/lang/invoke/MethodHandle" ∧ yX5_init.cls ≠ "java/lang/invoke/VarHandle" ∧ (parseMethodDescriptor yX5_init.desc).map (fun d => d.parameters.length) = some 4 := by decide +kernel
abbrev gX5_kind : GG := (RX5, cX5_kind, 1, (some .int), "kind", [])
theorem hX5_kind : yX5_kind.cls ≠ "java/lang/invoke/MethodHandle" ∧ yX5_kind.cls ≠ "java/lang/invoke/VarHandle" ∧ (parseMethodDescriptor yX5_kind.desc).map (fun d => d.parameters.length) = some 0 := by decide +kernel
abbrev gX5_means : GG := (RX5, cX5_means, 1, (some .int), "means", [])
theorem hX5_means : yX5_means.cls ≠ "java/lang/invoke/MethodHandle" ∧ yX5_means.cls ≠ "java/lang/invoke/VarHandle" ∧ (parseMethodDescriptor yX5_means.desc).map (fun d => d.parameters.length) = some 0 := by decide +kernel
abbrev gX5_is : GG := (RX5, cX5_is, 2, (some .boolean), "is", [])
theorem hX5_is : yX5_is.cls ≠ "java/lang/invoke/MethodHandle" ∧ yX5_is.cls ≠ "java/lang/invoke/VarHandle" ∧ (parseMethodDescriptor yX5_is.desc).map (fun d => d.parameters.length) = some 1 := by decide +kernel
abbrev gX5_asks : GG := (RX5, cX5_asks, 2, (some .int), "asks", [])
theorem hX5_asks : yX5_asks.cls ≠ "java/lang/invoke/MethodHandle" ∧ yX5_asks.cls ≠ "java/lang/invoke/VarHandle" ∧ (parseMethodDescriptor yX5_asks.desc).map (fun d => d.parameters.length) = some 1 := by decide +kernel
abbrev gX6_init : GG := (RX6, cX6_init, 5, none, "<init>", [])
theorem hX6_init : yX6_init.cls ≠ "java/lang/invoke/MethodHandle" ∧ yX6_init.cls ≠ "java/lang/invoke/VarHandle" ∧ (parseMethodDescriptor yX6_init.desc).map (fun d => d.parameters.length) = some 4 := by decide +kernel
abbrev gX6_kind : GG := (RX6, cX6_kind, 1, (some .int), "kind", [])
theorem hX6_kind : yX6_kind.cls ≠ "java/lang/invoke/MethodHandle" ∧ yX6_kind.cls ≠ "java/lang/invoke/VarHandle" ∧ (parseMethodDescriptor yX6_kind.desc).map (fun d => d.parameters.length) = some 0 := by decide +kernel
abbrev gX6_means : GG := (RX6, cX6_means, 1, (some .int), "means", [])
theorem hX6_means : yX6_means.cls ≠ "java/lang/invoke/MethodHandle" ∧ yX6_means.cls ≠ "java/lang/invoke/VarHandle" ∧ (parseMethodDescriptor yX6_means.desc).map (fun d => d.parameters.length) = some 0 := by decide +kernel
abbrev gX6_is : GG := (RX6, cX6_is, 2, (some .boolean), "is", [])
theorem hX6_is : yX6_is.cls ≠ "java/lang/invoke/MethodHandle" ∧ yX6_is.cls ≠ "java/lang/invoke/VarHandle" ∧ (parseMethodDescriptor yX6_is.desc).map (fun d => d.parameters.length) = some 1 := by decide +kernel
abbrev gX6_goneBy : GG := (RX6, cX6_goneBy, 1, (some .int), "goneBy", [])
theorem hX6_goneBy : yX6_goneBy.cls ≠ "java/lang/invoke/MethodHandle" ∧ yX6_goneBy.cls ≠ "java/lang/invoke/VarHandle" ∧ (parseMethodDescriptor yX6_goneBy.desc).map (fun d => d.parameters.length) = some 0 := by decide +kernel
abbrev gX7_init : GG := (RX7, cX7_init, 5, none, "<init>", [])
theorem hX7_init : yX7_init.cls ≠ "java/lang/invoke/MethodHandle" ∧ yX7_init.cls ≠ "java/lang/invoke/VarHandle" ∧ (parseMethodDescriptor yX7_init.desc).map (fun d => d.parameters.length) = some 4 := by decide +kernel
abbrev gX7_kind : GG := (RX7, cX7_kind, 1, (some .int), "kind", [])
theorem hX7_kind : yX7_kind.cls ≠ "java/lang/invoke/MethodHandle" ∧ yX7_kind.cls ≠ "java/lang/invoke/VarHandle" ∧ (parseMethodDescriptor yX7_kind.desc).map (fun d => d.parameters.length) = some 0 := by decide +kernel
abbrev gX7_means : GG := (RX7, cX7_means, 1, (some .int), "means", [])
theorem hX7_means : yX7_means.cls ≠ "java/lang/invoke/MethodHandle" ∧ yX7_means.cls ≠ "java/lang/invoke/VarHandle" ∧ (parseMethodDescriptor yX7_means.desc).map (fun d => d.parameters.length) = some 0 := by decide +kernel
abbrev gX7_is : GG := (RX7, cX7_is, 2, (some .boolean), "is", [])
theorem hX7_is : yX7_is.cls ≠ "java/lang/invoke/MethodHandle" ∧ yX7_is.cls ≠ "java/lang/invoke/VarHandle" ∧ (parseMethodDescriptor yX7_is.desc).map (fun d => d.parameters.length) = some 1 := by decide +kernel
abbrev gX7_before : GG := (RX7, cX7_before, 2, (some .int), "before", [])
theorem hX7_before : yX7_before.cls ≠ "java/lang/invoke/MethodHandle" ∧ yX7_before.cls ≠ "java/lang/invoke/VarHandle" ∧ (parseMethodDescriptor yX7_before.desc).map (fun d => d.parameters.length) = some 1 := by decide +kernel
abbrev gX8_init : GG := (RX8, cX8_init, 1, none, "<init>", [])
theorem hX8_init : yX8_init.cls ≠ "java/lang/invoke/MethodHandle" ∧ yX8_init.cls ≠ "java/lang/invoke/VarHandle" ∧ (parseMethodDescriptor yX8_init.desc).map (fun d => d.parameters.length) = some 0 := by decide +kernel
theorem n105 : (Jvm.Cond.arrayOver (Jvm.ClassFile.FieldType.array Jvm.ClassFile.FieldType.int)) ∈ nwL := List.mem_of_getElem? (i := 0) rfl
theorem n107 : (Jvm.Cond.arrayOver (Jvm.ClassFile.FieldType.array Jvm.ClassFile.FieldType.byte)) ∈ nwL := List.mem_of_getElem? (i := 1) rfl
theorem n109 : (Jvm.Cond.arrayOver (Jvm.ClassFile.FieldType.object "LostQuestions$Card")) ∈ nwL := List.mem_of_getElem? (i := 2) rfl
theorem n111 : (Jvm.Cond.arrayOver (Jvm.ClassFile.FieldType.object "LostQuestions$Kept")) ∈ nwL := List.mem_of_getElem? (i := 3) rfl
theorem n120 : (Jvm.Cond.fieldLinkNest "LostQuestions$Place" (13 : Nat) "LostQuestions" "cards" "[LLostQuestions$Card;" "LostQuestions") ∈ nwL := List.mem_of_getElem? (i := 4) rfl
theorem n244 : (Jvm.Cond.declares ({ cls := "java/lang/Throwable", name := "fillInStackTrace", desc := "()Ljava/lang/Throwable;" } : Jvm.MethodName)) ∈ nwL := List.mem_of_getElem? (i := 5) rfl
theorem n272 : (Jvm.Cond.castable "java/lang/NegativeArraySizeException" "java/lang/NegativeArraySizeException") ∈ nwL := List.mem_of_getElem? (i := 6) rfl
theorem n273 : (Jvm.Cond.declares ({ cls := "java/lang/RuntimeException", name := "<init>", desc := "()V" } : Jvm.MethodName)) ∈ nwL := List.mem_of_getElem? (i := 7) rfl
theorem n274 : (Jvm.Cond.declares ({ cls := "java/lang/RuntimeException", name := "<init>", desc := "(Ljava/lang/String;)V" } : Jvm.MethodName)) ∈ nwL := List.mem_of_getElem? (i := 8) rfl
theorem n275 : (Jvm.Cond.declares ({ cls := "java/lang/Exception", name := "<init>", desc := "()V" } : Jvm.MethodName)) ∈ nwL := List.mem_of_getElem? (i := 9) rfl
theorem n276 : (Jvm.Cond.declares ({ cls := "java/lang/Exception", name := "<init>", desc := "(Ljava/lang/String;)V" } : Jvm.MethodName)) ∈ nwL := List.mem_of_getElem? (i := 10) rfl
theorem n277 : (Jvm.Cond.declares ({ cls := "java/lang/Throwable", name := "<init>", desc := "()V" } : Jvm.MethodName)) ∈ nwL := List.mem_of_getElem? (i := 11) rfl
theorem n278 : (Jvm.Cond.declares ({ cls := "java/lang/Throwable", name := "<init>", desc := "(Ljava/lang/String;)V" } : Jvm.MethodName)) ∈ nwL := List.mem_of_getElem? (i := 12) rfl
theorem n335 : (Jvm.Cond.castable "java/lang/NullPointerException" "java/lang/NullPointerException") ∈ nwL := List.mem_of_getElem? (i := 13) rfl
theorem n337 : (Jvm.Cond.castable "java/lang/RuntimeException" "java/lang/Throwable") ∈ nwL := List.mem_of_getElem? (i := 14) rfl
theorem n353 : (Jvm.Cond.castable "java/lang/ArrayIndexOutOfBoundsException" "java/lang/ArrayIndexOutOfBoundsException") ∈ nwL := List.mem_of_getElem? (i := 15) rfl
theorem n354 : (Jvm.Cond.declares ({ cls := "java/lang/IndexOutOfBoundsException", name := "<init>", desc := "()V" } : Jvm.MethodName)) ∈ nwL := List.mem_of_getElem? (i := 16) rfl
theorem n355 : (Jvm.Cond.declares ({ cls := "java/lang/IndexOutOfBoundsException", name := "<init>", desc := "(Ljava/lang/String;)V" } : Jvm.MethodName)) ∈ nwL := List.mem_of_getElem? (i := 17) rfl
theorem n390 : (Jvm.Cond.castable "java/lang/ArithmeticException" "java/lang/ArithmeticException") ∈ nwL := List.mem_of_getElem? (i := 18) rfl
theorem n449 : (Jvm.Cond.fieldLinkNest "LostQuestions$Place" (23 : Nat) "LostQuestions$Card" "shelf" "I" "LostQuestions") ∈ nwL := List.mem_of_getElem? (i := 19) rfl
theorem n450 : (Jvm.Cond.fieldLinkNest "LostQuestions" (205 : Nat) "LostQuestions$Card" "shelf" "I" "LostQuestions") ∈ nwL := List.mem_of_getElem? (i := 20) rfl
theorem n452 : (Jvm.Cond.fieldLinkNest "LostQuestions" (211 : Nat) "LostQuestions$Card" "age" "I" "LostQuestions") ∈ nwL := List.mem_of_getElem? (i := 21) rfl
theorem n564 : (Jvm.Cond.declares ({ cls := "LostQuestions$Card", name := "means", desc := "()I" } : Jvm.MethodName)) ∈ nwL := List.mem_of_getElem? (i := 22) rfl
theorem n575 : (Jvm.Cond.declares ({ cls := "LostQuestions$Card", name := "age", desc := "()I" } : Jvm.MethodName)) ∈ nwL := List.mem_of_getElem? (i := 23) rfl
theorem n620 : (Jvm.Cond.castable "java/lang/ClassCastException" "java/lang/ClassCastException") ∈ nwL := List.mem_of_getElem? (i := 24) rfl
theorem n629 : (Jvm.Cond.methodLinkNest "LostQuestions$Yes" (20 : Nat) ({ cls := "LostQuestions", name := "meaning", desc := "(II)I" } : Jvm.MethodName) "LostQuestions") ∈ nwL := List.mem_of_getElem? (i := 25) rfl
theorem n666 : (Jvm.Cond.declares ({ cls := "LostQuestions$Card", name := "number", desc := "()I" } : Jvm.MethodName)) ∈ nwL := List.mem_of_getElem? (i := 26) rfl
theorem n671 : (Jvm.Cond.methodLinkNest "LostQuestions$Place" (27 : Nat) ({ cls := "LostQuestions", name := "onShelf", desc := "(I)I" } : Jvm.MethodName) "LostQuestions") ∈ nwL := List.mem_of_getElem? (i := 27) rfl
theorem n682 : (Jvm.Cond.methodLinkNest "LostQuestions$Never" (19 : Nat) ({ cls := "LostQuestions", name := "fitted", desc := "(I)I" } : Jvm.MethodName) "LostQuestions") ∈ nwL := List.mem_of_getElem? (i := 28) rfl
theorem n700 : (Jvm.Cond.declares ({ cls := "LostQuestions$Card", name := "says", desc := "()I" } : Jvm.MethodName)) ∈ nwL := List.mem_of_getElem? (i := 29) rfl
theorem n707 : (Jvm.Cond.methodLinkNest "LostQuestions$Behind" (20 : Nat) ({ cls := "LostQuestions", name := "saying", desc := "(II)I" } : Jvm.MethodName) "LostQuestions") ∈ nwL := List.mem_of_getElem? (i := 30) rfl
theorem n771 : (Jvm.Cond.methodLinkNest "LostQuestions" (264 : Nat) ({ cls := "LostQuestions$Kept", name := "<init>", desc := "()V" } : Jvm.MethodName) "LostQuestions") ∈ nwL := List.mem_of_getElem? (i := 31) rfl
theorem n775 : (Jvm.Cond.fieldLinkNest "LostQuestions" (265 : Nat) "LostQuestions$Kept" "takingMany" "I" "LostQuestions") ∈ nwL := List.mem_of_getElem? (i := 32) rfl
theorem n777 : (Jvm.Cond.fieldLinkNest "LostQuestions" (266 : Nat) "LostQuestions$Kept" "takings" "[I" "LostQuestions") ∈ nwL := List.mem_of_getElem? (i := 33) rfl
theorem n779 : (Jvm.Cond.fieldLinkNest "LostQuestions" (267 : Nat) "LostQuestions$Kept" "ahead" "[I" "LostQuestions") ∈ nwL := List.mem_of_getElem? (i := 34) rfl
theorem n781 : (Jvm.Cond.fieldLinkNest "LostQuestions" (268 : Nat) "LostQuestions$Kept" "by" "[I" "LostQuestions") ∈ nwL := List.mem_of_getElem? (i := 35) rfl
theorem n783 : (Jvm.Cond.fieldLinkNest "LostQuestions" (269 : Nat) "LostQuestions$Kept" "truths" "[I" "LostQuestions") ∈ nwL := List.mem_of_getElem? (i := 36) rfl
theorem n785 : (Jvm.Cond.fieldLinkNest "LostQuestions" (270 : Nat) "LostQuestions$Kept" "shelves" "[I" "LostQuestions") ∈ nwL := List.mem_of_getElem? (i := 37) rfl
theorem n787 : (Jvm.Cond.fieldLinkNest "LostQuestions" (273 : Nat) "LostQuestions$Kept" "ages" "[I" "LostQuestions") ∈ nwL := List.mem_of_getElem? (i := 38) rfl
theorem n1441 : (Jvm.Cond.castable "java/lang/ArrayIndexOutOfBoundsException" "java/lang/IndexOutOfBoundsException") ∈ nwL := List.mem_of_getElem? (i := 39) rfl
theorem n1442 : (Jvm.Cond.castable "LostQuestions$Never" "LostQuestions$Yes") ∈ nwL := List.mem_of_getElem? (i := 40) rfl
theorem n1443 : (Jvm.Cond.castable "LostQuestions$Behind" "LostQuestions$Place") ∈ nwL := List.mem_of_getElem? (i := 41) rfl
theorem n1444 : (Jvm.Cond.castable "LostQuestions$Yes" "LostQuestions$Card") ∈ nwL := List.mem_of_getElem? (i := 42) rfl
theorem n1445 : (Jvm.Cond.castable "LostQuestions$Place" "LostQuestions$Card") ∈ nwL := List.mem_of_getElem? (i := 43) rfl
theorem n1446 : (Jvm.Cond.castable "LostQuestions$Never" "LostQuestions$Card") ∈ nwL := List.mem_of_getElem? (i := 44) rfl
theorem n1447 : (Jvm.Cond.castable "LostQuestions$Time" "LostQuestions$Card") ∈ nwL := List.mem_of_getElem? (i := 45) rfl
theorem n1448 : (Jvm.Cond.castable "LostQuestions$Behind" "LostQuestions$Card") ∈ nwL := List.mem_of_getElem? (i := 46) rfl
