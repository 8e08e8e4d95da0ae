/-! (the law's own decode rows stand among the names, part 03) -/
